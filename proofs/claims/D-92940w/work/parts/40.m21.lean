/-! THE TWIN, part 21: the draft is kept -/
set_option maxRecDepth 100000
def kd0 (S : Nat → Nat → Int32) : Nat → Nat → Int32 := zu (zu (zu (zu S 289 0 (S 289 9)) 289 2 (S 289 11)) 289 5 (S 289 14)) 289 7 (S 289 16)
def kdH (t : Nat) (S : Nat → Nat → Int32) : Nat → Nat → Int32 := zu S 290 t (S 295 t)
def kd1 (S : Nat → Nat → Int32) : Nat → Nat → Int32 := itr kdH (kd0 S) 8
def kdB (m : Nat) (S : Nat → Nat → Int32) : Nat → Nat → Int32 := zu (zu S 291 m (S 296 m)) 292 m (S 297 m)
def kdAF (B : Nat → Nat → Int32) (m t : Nat) (a : Int32) : Int32 := a ||| (if B 290 t &&& B 291 m = B 291 m ∧ B 290 t &&& B 292 m = 0 then (1 : Int32) <<< (nI t &&& 31) else 0)
def kdA (B : Nat → Nat → Int32) (m t : Nat) : Int32 := itr (kdAF B m) 0 t
def kdM (c m : Nat) (S : Nat → Nat → Int32) : Nat → Nat → Int32 := zu (kdB m S) 300 m (kdA (kdB m S) m c)
def kd2 (S : Nat → Nat → Int32) : Nat → Nat → Int32 := itr (kdM (dN 9 (S 289))) (kd1 S) 12
def kdT (s : Nat) (S : Nat → Nat → Int32) : Nat → Nat → Int32 := zu S 293 s (S 298 s)
def kd3 (S : Nat → Nat → Int32) : Nat → Nat → Int32 := itr kdT (kd2 S) 4
def kdK (s : Nat) (S : Nat → Nat → Int32) : Nat → Nat → Int32 := zu S 294 s (S 299 s)
def kd4 (S : Nat → Nat → Int32) : Nat → Nat → Int32 := itr kdK (kd3 S) 30
def kd5 (S : Nat → Nat → Int32) : Nat → Nat → Int32 := zu (zu (zu (zu (zu (kd4 S) 289 28 0) 289 33 ((1 : Int32) <<< (kd4 S 289 7 &&& 31) - 1)) 289 34 0) 309 0 0) 309 1 0
def w_kd (S : Nat → Nat → Int32) : Nat → Nat → Int32 := zs (kd5 S) 302 (s_rep (kd5 S) (kd5 S 302) 0)
theorem itr_at {F : Nat → (Nat → Nat → Int32) → (Nat → Nat → Int32)} {a : Nat} (h : ∀ i S, F i S a = S a) (S : Nat → Nat → Int32) : ∀ n, itr F S n a = S a
  | 0 => rfl
  | n + 1 => (h n _).trans (itr_at h S n)
theorem zu_row {S : Nat → Nat → Int32} {a b k : Nat} {v : Int32} (h : b ≠ a) : zu S a k v b = S b := by
  funext j
  exact zu_ne1 h
theorem kdH_at {a : Nat} (h : a ≠ 290) (S : Nat → Nat → Int32) (n : Nat) : itr kdH S n a = S a := itr_at (fun _ _ => zu_row h) S n
theorem kdM_at {c a : Nat} (h1 : a ≠ 291) (h2 : a ≠ 292) (h3 : a ≠ 300) (S : Nat → Nat → Int32) (n : Nat) : itr (kdM c) S n a = S a := itr_at (fun _ _ => (zu_row h3).trans ((zu_row h2).trans (zu_row h1))) S n
theorem kdT_at {a : Nat} (h : a ≠ 293) (S : Nat → Nat → Int32) (n : Nat) : itr kdT S n a = S a := itr_at (fun _ _ => zu_row h) S n
theorem kdK_at {a : Nat} (h : a ≠ 294) (S : Nat → Nat → Int32) (n : Nat) : itr kdK S n a = S a := itr_at (fun _ _ => zu_row h) S n
theorem kd1_289 (S : Nat → Nat → Int32) : kd1 S 289 = kd0 S 289 := kdH_at (by decide) _ _
theorem kd2i_289 (S : Nat → Nat → Int32) (c i : Nat) : itr (kdM c) (kd1 S) i 289 0 = S 289 9 := (congrFun ((kdM_at (by decide) (by decide) (by decide) _ _).trans (kd1_289 S)) 0).trans rfl
theorem CE.rfl' (S : Nat → Nat → Int32) : CE S S := ⟨rfl, rfl, rfl, rfl, rfl, rfl, rfl, rfl, rfl, rfl⟩
theorem zs_own (S : Nat → Nat → Int32) (a : Nat) : S = zs S a (S a) := (zs_self S a).symm
section M21
variable {g : ZG} {h : ZH} {S A C : Nat → Nat → Int32} {f : Nat → Int32}
theorem tm_keepDraft (hM : MS h.2.1 h.2.2.2) (hc : S 289 9 = nI (dN 9 (S 289))) (hc8 : dN 9 (S 289) ≤ 8) (hC5 : CI (kd5 S)) : Zd g mX5_keepDraft 8 0 0 [.ref 289] (zW h S) none (zW h (w_kd S)) := by
  refine zc_of [some (.ref 289), none, none] rfl (Nat.le_of_ble_eq_true rfl) rfl ?_
  refine zt_aload_n (pc := 0) dX5_keepDraft_0 rfl rfl ?_
  refine zt_aload_n (pc := 1) dX5_keepDraft_1 rfl rfl ?_
  refine wt_getI (pc := 2) 5 9 (v := S 289 9) dX5_keepDraft_2 q1281 rfl (ms_o hM) rfl ?_
  refine wt_putI (pc := 5) 5 0 dX5_keepDraft_5 q1272 rfl (ms_o hM) ?_
  refine zt_aload_n (pc := 8) dX5_keepDraft_8 rfl rfl ?_
  refine zt_aload_n (pc := 9) dX5_keepDraft_9 rfl rfl ?_
  refine wt_getI (pc := 10) 5 11 (v := S 289 11) dX5_keepDraft_10 q1283 rfl (ms_o hM) ((zu_ne2 (by decide)).trans (rfl)) ?_
  refine wt_putI (pc := 13) 5 2 dX5_keepDraft_13 q1274 rfl (ms_o hM) ?_
  refine zt_aload_n (pc := 16) dX5_keepDraft_16 rfl rfl ?_
  refine zt_aload_n (pc := 17) dX5_keepDraft_17 rfl rfl ?_
  refine wt_getI (pc := 18) 5 14 (v := S 289 14) dX5_keepDraft_18 q1286 rfl (ms_o hM) ((zu_ne2 (by decide)).trans ((zu_ne2 (by decide)).trans (rfl))) ?_
  refine wt_putI (pc := 21) 5 5 dX5_keepDraft_21 q1277 rfl (ms_o hM) ?_
  refine zt_aload_n (pc := 24) dX5_keepDraft_24 rfl rfl ?_
  refine zt_aload_n (pc := 25) dX5_keepDraft_25 rfl rfl ?_
  refine wt_getI (pc := 26) 5 16 (v := S 289 16) dX5_keepDraft_26 q1288 rfl (ms_o hM) ((zu_ne2 (by decide)).trans ((zu_ne2 (by decide)).trans ((zu_ne2 (by decide)).trans (rfl)))) ?_
  refine wt_putI (pc := 29) 5 7 dX5_keepDraft_29 q1279 rfl (ms_o hM) ?_
  refine zt_iconst (pc := 32) dX5_keepDraft_32 (v := 0) rfl ?_
  refine zt_istore_n (pc := 33) (L' := [some (.ref 289), some (.int 0), none]) dX5_keepDraft_33 rfl (by decide) rfl rfl ?_
  refine zt_for (pc := 34) (fun i => itr kdH (kd0 S) i) (fun i => [some (.ref 289), some (.int (nI i)), none]) 8 rfl rfl ?_ (fun i hi_i ih_i => ?_)
  · show Zt _ _ _ _ _ _ (zW h (itr kdH (kd0 S) 8)) 34 [some (.ref 289), some (.int (nI 8)), none] []
    refine zt_iload_n (pc := 34) dX5_keepDraft_34 rfl rfl ?_
    refine zt_bipush (pc := 35) dX5_keepDraft_35 (v := 8) rfl ?_
    refine zt_geN (a := 8) (b := 8) (pc := 37) 58 dX5_keepDraft_37 (by decide) (by omega) (by omega) (fun c_37 => ?_) (fun c_37 => absurd c_37 (Nat.lt_irrefl _))
    refine zt_S (S' := kd1 S) rfl ?_
    refine zt_iconst (pc := 58) dX5_keepDraft_58 (v := 0) rfl ?_
    refine zt_istore_n (pc := 59) (L' := [some (.ref 289), some (.int 0), none]) dX5_keepDraft_59 rfl (by decide) rfl rfl ?_
    refine zt_for (pc := 60) (fun i => itr (kdM (dN 9 (S 289))) (kd1 S) i) (fun i => [some (.ref 289), some (.int (nI i)), none]) 12 rfl rfl ?_ (fun i hi_i ih_i => ?_)
    · show Zt _ _ _ _ _ _ (zW h (itr (kdM (dN 9 (S 289))) (kd1 S) 12)) 60 [some (.ref 289), some (.int (nI 12)), none] []
      refine zt_iload_n (pc := 60) dX5_keepDraft_60 rfl rfl ?_
      refine zt_bipush (pc := 61) dX5_keepDraft_61 (v := 12) rfl ?_
      refine zt_geN (a := 12) (b := 12) (pc := 63) 173 dX5_keepDraft_63 (by decide) (by omega) (by omega) (fun c_63 => ?_) (fun c_63 => absurd c_63 (Nat.lt_irrefl _))
      refine zt_S (S' := kd2 S) rfl ?_
      refine zt_iconst (pc := 173) dX5_keepDraft_173 (v := 0) rfl ?_
      refine zt_istore_n (pc := 174) (L' := [some (.ref 289), some (.int 0), none]) dX5_keepDraft_174 rfl (by decide) rfl rfl ?_
      refine zt_for (pc := 175) (fun i => itr kdT (kd2 S) i) (fun i => [some (.ref 289), some (.int (nI i)), none]) 4 rfl rfl ?_ (fun i hi_i ih_i => ?_)
      · show Zt _ _ _ _ _ _ (zW h (itr kdT (kd2 S) 4)) 175 [some (.ref 289), some (.int (nI 4)), none] []
        refine zt_iload_n (pc := 175) dX5_keepDraft_175 rfl rfl ?_
        refine zt_iconst (pc := 176) dX5_keepDraft_176 (v := 4) rfl ?_
        refine zt_geN (a := 4) (b := 4) (pc := 177) 198 dX5_keepDraft_177 (by decide) (by omega) (by omega) (fun c_177 => ?_) (fun c_177 => absurd c_177 (Nat.lt_irrefl _))
        refine zt_S (S' := kd3 S) rfl ?_
        refine zt_iconst (pc := 198) dX5_keepDraft_198 (v := 0) rfl ?_
        refine zt_istore_n (pc := 199) (L' := [some (.ref 289), some (.int 0), none]) dX5_keepDraft_199 rfl (by decide) rfl rfl ?_
        refine zt_for (pc := 200) (fun i => itr kdK (kd3 S) i) (fun i => [some (.ref 289), some (.int (nI i)), none]) 30 rfl rfl ?_ (fun i hi_i ih_i => ?_)
        · show Zt _ _ _ _ _ _ (zW h (itr kdK (kd3 S) 30)) 200 [some (.ref 289), some (.int (nI 30)), none] []
          refine zt_iload_n (pc := 200) dX5_keepDraft_200 rfl rfl ?_
          refine zt_bipush (pc := 201) dX5_keepDraft_201 (v := 30) rfl ?_
          refine zt_geN (a := 30) (b := 30) (pc := 203) 224 dX5_keepDraft_203 (by decide) (by omega) (by omega) (fun c_203 => ?_) (fun c_203 => absurd c_203 (Nat.lt_irrefl _))
          refine zt_S (S' := kd4 S) rfl ?_
          refine zt_aload_n (pc := 224) dX5_keepDraft_224 rfl rfl ?_
          refine zt_iconst (pc := 225) dX5_keepDraft_225 (v := 0) rfl ?_
          refine wt_putI (pc := 226) 5 28 dX5_keepDraft_226 q1300 rfl (ms_o hM) ?_
          refine zt_aload_n (pc := 229) dX5_keepDraft_229 rfl rfl ?_
          refine zt_iconst (pc := 230) dX5_keepDraft_230 (v := 1) rfl ?_
          refine zt_aload_n (pc := 231) dX5_keepDraft_231 rfl rfl ?_
          refine wt_getI (pc := 232) 5 7 (v := (kd4 S) 289 7) dX5_keepDraft_232 q1279 rfl (ms_o hM) ((zu_ne2 (by decide)).trans (rfl)) ?_
          refine zt_ishl (pc := 235) dX5_keepDraft_235 ?_
          refine zt_iconst (pc := 236) dX5_keepDraft_236 (v := 1) rfl ?_
          refine zt_isub (pc := 237) dX5_keepDraft_237 ?_
          refine wt_putI (pc := 238) 5 33 dX5_keepDraft_238 q1305 rfl (ms_o hM) ?_
          refine zt_aload_n (pc := 241) dX5_keepDraft_241 rfl rfl ?_
          refine zt_iconst (pc := 242) dX5_keepDraft_242 (v := 0) rfl ?_
          refine wt_putI (pc := 243) 5 34 dX5_keepDraft_243 q1306 rfl (ms_o hM) ?_
          refine zt_aload_n (pc := 246) dX5_keepDraft_246 rfl rfl ?_
          refine wt_getR (pc := 247) 5 37 dX5_keepDraft_247 q1309 rfl (ms_o hM) (mr_isKept hM) ?_
          refine zt_iconst (pc := 250) dX5_keepDraft_250 (v := 0) rfl ?_
          refine zt_iconst (pc := 251) dX5_keepDraft_251 (v := 0) rfl ?_
          refine wt_zast (pc := 252) 2 0 dX5_keepDraft_252 (ma_isKept hM) rfl rfl (by omega) rfl ?_
          refine zt_aload_n (pc := 253) dX5_keepDraft_253 rfl rfl ?_
          refine wt_getR (pc := 254) 5 37 dX5_keepDraft_254 q1309 rfl (ms_o hM) (mr_isKept hM) ?_
          refine zt_iconst (pc := 257) dX5_keepDraft_257 (v := 1) rfl ?_
          refine zt_iconst (pc := 258) dX5_keepDraft_258 (v := 0) rfl ?_
          refine wt_zast (pc := 259) 2 1 dX5_keepDraft_259 (ma_isKept hM) rfl rfl (by omega) rfl ?_
          refine zt_S (S' := kd5 S) rfl ?_
          refine zt_S (S' := zs (kd5 S) 302 (kd5 S 302)) (zs_own _ _) ?_
          refine zt_aload_n (pc := 260) dX5_keepDraft_260 rfl rfl ?_
          refine wt_callV (pc := 261) mX5_replays 0 5 (rc' := 0) (rs' := 0) dX5_keepDraft_261 q1213 mi_X5_replays rfl rfl (ms_o hM) (tm_replays (S := kd5 S) (A := kd5 S) (f := kd5 S 302) hM hC5 (CE.rfl' _) rfl 0 rfl (by decide) (fun i hi => absurd hi (Nat.not_lt_zero _))) rfl rfl rfl rfl rfl rfl ?_
          exact zt_return (pc := 264) dX5_keepDraft_264 rfl (⟨rfl, rfl⟩)
        · show Zt _ _ _ _ _ _ (zW h (itr kdK (kd3 S) i)) 200 [some (.ref 289), some (.int (nI i)), none] []
          refine zt_iload_n (pc := 200) dX5_keepDraft_200 rfl rfl ?_
          refine zt_bipush (pc := 201) dX5_keepDraft_201 (v := 30) rfl ?_
          refine zt_geN (a := i) (b := 30) (pc := 203) 224 dX5_keepDraft_203 (by decide) (by omega) (by omega) (fun c_203 => absurd hi_i (Nat.not_lt.mpr c_203)) (fun c_203 => ?_)
          refine zt_aload_n (pc := 206) dX5_keepDraft_206 rfl rfl ?_
          refine wt_getR (pc := 207) 5 8 dX5_keepDraft_207 q1280 rfl (ms_o hM) (mr_kind hM) ?_
          refine zt_iload_n (pc := 210) dX5_keepDraft_210 rfl rfl ?_
          refine zt_aload_n (pc := 211) dX5_keepDraft_211 rfl rfl ?_
          refine wt_getR (pc := 212) 5 17 dX5_keepDraft_212 q1289 rfl (ms_o hM) (mr_dKind hM) ?_
          refine zt_iload_n (pc := 215) dX5_keepDraft_215 rfl rfl ?_
          refine wt_iald (pc := 216) 30 i (v := (itr kdK (kd3 S) i) 299 i) dX5_keepDraft_216 (ma_dKind hM) rfl rfl (by omega) rfl ?_
          refine wt_iast (pc := 217) 30 i dX5_keepDraft_217 (ma_kind hM) rfl rfl (by omega) ?_
          refine zt_iincN (pc := 218) (b := i + 1) (L' := [some (.ref 289), some (.int (nI (i + 1))), none]) dX5_keepDraft_218 rfl (zinc1 i) (by decide) rfl rfl ?_
          refine zt_goto (pc := 221) 200 dX5_keepDraft_221 (by decide) ?_
          exact ih_i
      · show Zt _ _ _ _ _ _ (zW h (itr kdT (kd2 S) i)) 175 [some (.ref 289), some (.int (nI i)), none] []
        refine zt_iload_n (pc := 175) dX5_keepDraft_175 rfl rfl ?_
        refine zt_iconst (pc := 176) dX5_keepDraft_176 (v := 4) rfl ?_
        refine zt_geN (a := i) (b := 4) (pc := 177) 198 dX5_keepDraft_177 (by decide) (by omega) (by omega) (fun c_177 => absurd hi_i (Nat.not_lt.mpr c_177)) (fun c_177 => ?_)
        refine zt_aload_n (pc := 180) dX5_keepDraft_180 rfl rfl ?_
        refine wt_getR (pc := 181) 5 6 dX5_keepDraft_181 q1278 rfl (ms_o hM) (mr_target hM) ?_
        refine zt_iload_n (pc := 184) dX5_keepDraft_184 rfl rfl ?_
        refine zt_aload_n (pc := 185) dX5_keepDraft_185 rfl rfl ?_
        refine wt_getR (pc := 186) 5 15 dX5_keepDraft_186 q1287 rfl (ms_o hM) (mr_dTarget hM) ?_
        refine zt_iload_n (pc := 189) dX5_keepDraft_189 rfl rfl ?_
        refine wt_iald (pc := 190) 4 i (v := (itr kdT (kd2 S) i) 298 i) dX5_keepDraft_190 (ma_dTarget hM) rfl rfl (by omega) rfl ?_
        refine wt_iast (pc := 191) 4 i dX5_keepDraft_191 (ma_target hM) rfl rfl (by omega) ?_
        refine zt_iincN (pc := 192) (b := i + 1) (L' := [some (.ref 289), some (.int (nI (i + 1))), none]) dX5_keepDraft_192 rfl (zinc1 i) (by decide) rfl rfl ?_
        refine zt_goto (pc := 195) 175 dX5_keepDraft_195 (by decide) ?_
        exact ih_i
    · show Zt _ _ _ _ _ _ (zW h (itr (kdM (dN 9 (S 289))) (kd1 S) i)) 60 [some (.ref 289), some (.int (nI i)), none] []
      refine zt_iload_n (pc := 60) dX5_keepDraft_60 rfl rfl ?_
      refine zt_bipush (pc := 61) dX5_keepDraft_61 (v := 12) rfl ?_
      refine zt_geN (a := i) (b := 12) (pc := 63) 173 dX5_keepDraft_63 (by decide) (by omega) (by omega) (fun c_63 => absurd hi_i (Nat.not_lt.mpr c_63)) (fun c_63 => ?_)
      refine zt_aload_n (pc := 66) dX5_keepDraft_66 rfl rfl ?_
      refine wt_getR (pc := 67) 5 3 dX5_keepDraft_67 q1275 rfl (ms_o hM) (mr_having hM) ?_
      refine zt_iload_n (pc := 70) dX5_keepDraft_70 rfl rfl ?_
      refine zt_aload_n (pc := 71) dX5_keepDraft_71 rfl rfl ?_
      refine wt_getR (pc := 72) 5 12 dX5_keepDraft_72 q1284 rfl (ms_o hM) (mr_dHaving hM) ?_
      refine zt_iload_n (pc := 75) dX5_keepDraft_75 rfl rfl ?_
      refine wt_iald (pc := 76) 12 i (v := (itr (kdM (dN 9 (S 289))) (kd1 S) i) 296 i) dX5_keepDraft_76 (ma_dHaving hM) rfl rfl (by omega) rfl ?_
      refine wt_iast (pc := 77) 12 i dX5_keepDraft_77 (ma_having hM) rfl rfl (by omega) ?_
      refine zt_aload_n (pc := 78) dX5_keepDraft_78 rfl rfl ?_
      refine wt_getR (pc := 79) 5 4 dX5_keepDraft_79 q1276 rfl (ms_o hM) (mr_lacking hM) ?_
      refine zt_iload_n (pc := 82) dX5_keepDraft_82 rfl rfl ?_
      refine zt_aload_n (pc := 83) dX5_keepDraft_83 rfl rfl ?_
      refine wt_getR (pc := 84) 5 13 dX5_keepDraft_84 q1285 rfl (ms_o hM) (mr_dLacking hM) ?_
      refine zt_iload_n (pc := 87) dX5_keepDraft_87 rfl rfl ?_
      refine wt_iald (pc := 88) 12 i (v := (itr (kdM (dN 9 (S 289))) (kd1 S) i) 297 i) dX5_keepDraft_88 (ma_dLacking hM) rfl rfl (by omega) ((zu_ne1 (by decide)).trans (rfl)) ?_
      refine wt_iast (pc := 89) 12 i dX5_keepDraft_89 (ma_lacking hM) rfl rfl (by omega) ?_
      refine zt_aload_n (pc := 90) dX5_keepDraft_90 rfl rfl ?_
      refine wt_getR (pc := 91) 5 18 dX5_keepDraft_91 q1290 rfl (ms_o hM) (mr_are hM) ?_
      refine zt_iload_n (pc := 94) dX5_keepDraft_94 rfl rfl ?_
      refine zt_iconst (pc := 95) dX5_keepDraft_95 (v := 0) rfl ?_
      refine wt_iast (pc := 96) 12 i dX5_keepDraft_96 (ma_are hM) rfl rfl (by omega) ?_
      refine zt_iconst (pc := 97) dX5_keepDraft_97 (v := 0) rfl ?_
      refine zt_istore_n (pc := 98) (L' := [some (.ref 289), some (.int (nI i)), some (.int 0)]) dX5_keepDraft_98 rfl (by decide) rfl rfl ?_
      refine zt_for (pc := 99) (fun t => zu (kdB i (itr (kdM (dN 9 (S 289))) (kd1 S) i)) 300 i (kdA (kdB i (itr (kdM (dN 9 (S 289))) (kd1 S) i)) i t)) (fun t => [some (.ref 289), some (.int (nI i)), some (.int (nI t))]) (dN 9 (S 289)) rfl rfl ?_ (fun t hi_t ih_t => ?_)
      · show Zt _ _ _ _ _ _ (zW h (zu (kdB i (itr (kdM (dN 9 (S 289))) (kd1 S) i)) 300 i (kdA (kdB i (itr (kdM (dN 9 (S 289))) (kd1 S) i)) i (dN 9 (S 289))))) 99 [some (.ref 289), some (.int (nI i)), some (.int (nI (dN 9 (S 289))))] []
        refine zt_iload_n (pc := 99) dX5_keepDraft_99 rfl rfl ?_
        refine zt_aload_n (pc := 100) dX5_keepDraft_100 rfl rfl ?_
        refine wt_getI (pc := 101) 5 0 (v := nI (dN 9 (S 289))) dX5_keepDraft_101 q1272 rfl (ms_o hM) ((zu_ne1 (by decide)).trans ((zu_ne1 (by decide)).trans ((zu_ne1 (by decide)).trans ((kd2i_289 S (dN 9 (S 289)) i).trans hc)))) ?_
        refine zt_geN (a := (dN 9 (S 289))) (b := dN 9 (S 289)) (pc := 104) 167 dX5_keepDraft_104 (by decide) (by omega) (by omega) (fun c_104 => ?_) (fun c_104 => absurd c_104 (Nat.lt_irrefl _))
        refine zt_iincN (pc := 167) (b := i + 1) (L' := [some (.ref 289), some (.int (nI (i + 1))), some (.int (nI (dN 9 (S 289))))]) dX5_keepDraft_167 rfl (zinc1 i) (by decide) rfl rfl ?_
        refine zt_goto (pc := 170) 60 dX5_keepDraft_170 (by decide) ?_
        refine zt_drop (L' := [some (.ref 289), some (.int (nI (i + 1))), none]) 2 rfl ?_
        exact ih_i
      · show Zt _ _ _ _ _ _ (zW h (zu (kdB i (itr (kdM (dN 9 (S 289))) (kd1 S) i)) 300 i (kdA (kdB i (itr (kdM (dN 9 (S 289))) (kd1 S) i)) i t))) 99 [some (.ref 289), some (.int (nI i)), some (.int (nI t))] []
        refine zt_iload_n (pc := 99) dX5_keepDraft_99 rfl rfl ?_
        refine zt_aload_n (pc := 100) dX5_keepDraft_100 rfl rfl ?_
        refine wt_getI (pc := 101) 5 0 (v := nI (dN 9 (S 289))) dX5_keepDraft_101 q1272 rfl (ms_o hM) ((zu_ne1 (by decide)).trans ((zu_ne1 (by decide)).trans ((zu_ne1 (by decide)).trans ((kd2i_289 S (dN 9 (S 289)) i).trans hc)))) ?_
        refine zt_geN (a := t) (b := dN 9 (S 289)) (pc := 104) 167 dX5_keepDraft_104 (by decide) (by omega) (by omega) (fun c_104 => absurd hi_t (Nat.not_lt.mpr c_104)) (fun c_104 => ?_)
        refine zt_aload_n (pc := 107) dX5_keepDraft_107 rfl rfl ?_
        refine wt_getR (pc := 108) 5 18 dX5_keepDraft_108 q1290 rfl (ms_o hM) (mr_are hM) ?_
        refine zt_iload_n (pc := 111) dX5_keepDraft_111 rfl rfl ?_
        refine zt_dup2 (pc := 112) dX5_keepDraft_112 rfl rfl ?_
        refine wt_iald (pc := 113) 12 i (v := kdA (kdB i (itr (kdM (dN 9 (S 289))) (kd1 S) i)) i t) dX5_keepDraft_113 (ma_are hM) rfl rfl (by omega) (if_pos ⟨rfl, rfl⟩) ?_
        refine zt_aload_n (pc := 114) dX5_keepDraft_114 rfl rfl ?_
        refine wt_getR (pc := 115) 5 1 dX5_keepDraft_115 q1273 rfl (ms_o hM) (mr_thing hM) ?_
        refine zt_iload_n (pc := 118) dX5_keepDraft_118 rfl rfl ?_
        refine wt_iald (pc := 119) 8 t (v := (kdB i (itr (kdM (dN 9 (S 289))) (kd1 S) i)) 290 t) dX5_keepDraft_119 (ma_thing hM) rfl rfl (by omega) ((zu_ne1 (by decide)).trans (rfl)) ?_
        refine zt_aload_n (pc := 120) dX5_keepDraft_120 rfl rfl ?_
        refine wt_getR (pc := 121) 5 3 dX5_keepDraft_121 q1275 rfl (ms_o hM) (mr_having hM) ?_
        refine zt_iload_n (pc := 124) dX5_keepDraft_124 rfl rfl ?_
        refine wt_iald (pc := 125) 12 i (v := (kdB i (itr (kdM (dN 9 (S 289))) (kd1 S) i)) 291 i) dX5_keepDraft_125 (ma_having hM) rfl rfl (by omega) ((zu_ne1 (by decide)).trans (rfl)) ?_
        refine zt_iand (pc := 126) dX5_keepDraft_126 ?_
        refine zt_aload_n (pc := 127) dX5_keepDraft_127 rfl rfl ?_
        refine wt_getR (pc := 128) 5 3 dX5_keepDraft_128 q1275 rfl (ms_o hM) (mr_having hM) ?_
        refine zt_iload_n (pc := 131) dX5_keepDraft_131 rfl rfl ?_
        refine wt_iald (pc := 132) 12 i (v := (kdB i (itr (kdM (dN 9 (S 289))) (kd1 S) i)) 291 i) dX5_keepDraft_132 (ma_having hM) rfl rfl (by omega) ((zu_ne1 (by decide)).trans (rfl)) ?_
        refine zt_icmp_ne (pc := 133) 158 dX5_keepDraft_133 (by decide) (fun c_133 => ?_) (fun c_133 => ?_)
        · refine zt_iconst (pc := 158) dX5_keepDraft_158 (v := 0) rfl ?_
          refine zt_top (pc := 159) (if (kdB i (itr (kdM (dN 9 (S 289))) (kd1 S) i)) 290 t &&& (kdB i (itr (kdM (dN 9 (S 289))) (kd1 S) i)) 291 i = (kdB i (itr (kdM (dN 9 (S 289))) (kd1 S) i)) 291 i ∧ (kdB i (itr (kdM (dN 9 (S 289))) (kd1 S) i)) 290 t &&& (kdB i (itr (kdM (dN 9 (S 289))) (kd1 S) i)) 292 i = 0 then (1 : Int32) <<< (nI t &&& 31) else 0) ((if_neg (fun z => c_133 z.1)).symm) ?_
          refine zt_ior (pc := 159) dX5_keepDraft_159 ?_
          refine wt_iast (pc := 160) 12 i dX5_keepDraft_160 (ma_are hM) rfl rfl (by omega) ?_
          refine zt_iincN (pc := 161) (b := t + 1) (L' := [some (.ref 289), some (.int (nI i)), some (.int (nI (t + 1)))]) dX5_keepDraft_161 rfl (zinc1 t) (by decide) rfl rfl ?_
          refine zt_goto (pc := 164) 99 dX5_keepDraft_164 (by decide) ?_
          refine zt_S (S' := zu (kdB i (itr (kdM (dN 9 (S 289))) (kd1 S) i)) 300 i (kdA (kdB i (itr (kdM (dN 9 (S 289))) (kd1 S) i)) i (t + 1))) (zu_zu _ _ _ _ _) ?_
          exact ih_t
        · refine zt_aload_n (pc := 136) dX5_keepDraft_136 rfl rfl ?_
          refine wt_getR (pc := 137) 5 1 dX5_keepDraft_137 q1273 rfl (ms_o hM) (mr_thing hM) ?_
          refine zt_iload_n (pc := 140) dX5_keepDraft_140 rfl rfl ?_
          refine wt_iald (pc := 141) 8 t (v := (kdB i (itr (kdM (dN 9 (S 289))) (kd1 S) i)) 290 t) dX5_keepDraft_141 (ma_thing hM) rfl rfl (by omega) ((zu_ne1 (by decide)).trans (rfl)) ?_
          refine zt_aload_n (pc := 142) dX5_keepDraft_142 rfl rfl ?_
          refine wt_getR (pc := 143) 5 4 dX5_keepDraft_143 q1276 rfl (ms_o hM) (mr_lacking hM) ?_
          refine zt_iload_n (pc := 146) dX5_keepDraft_146 rfl rfl ?_
          refine wt_iald (pc := 147) 12 i (v := (kdB i (itr (kdM (dN 9 (S 289))) (kd1 S) i)) 292 i) dX5_keepDraft_147 (ma_lacking hM) rfl rfl (by omega) ((zu_ne1 (by decide)).trans (rfl)) ?_
          refine zt_iand (pc := 148) dX5_keepDraft_148 ?_
          refine zt_if_ne (pc := 149) 158 dX5_keepDraft_149 (by decide) (fun c_149 => ?_) (fun c_149 => ?_)
          · refine zt_iconst (pc := 158) dX5_keepDraft_158 (v := 0) rfl ?_
            refine zt_top (pc := 159) (if (kdB i (itr (kdM (dN 9 (S 289))) (kd1 S) i)) 290 t &&& (kdB i (itr (kdM (dN 9 (S 289))) (kd1 S) i)) 291 i = (kdB i (itr (kdM (dN 9 (S 289))) (kd1 S) i)) 291 i ∧ (kdB i (itr (kdM (dN 9 (S 289))) (kd1 S) i)) 290 t &&& (kdB i (itr (kdM (dN 9 (S 289))) (kd1 S) i)) 292 i = 0 then (1 : Int32) <<< (nI t &&& 31) else 0) ((if_neg (fun z => c_149 z.2)).symm) ?_
            refine zt_ior (pc := 159) dX5_keepDraft_159 ?_
            refine wt_iast (pc := 160) 12 i dX5_keepDraft_160 (ma_are hM) rfl rfl (by omega) ?_
            refine zt_iincN (pc := 161) (b := t + 1) (L' := [some (.ref 289), some (.int (nI i)), some (.int (nI (t + 1)))]) dX5_keepDraft_161 rfl (zinc1 t) (by decide) rfl rfl ?_
            refine zt_goto (pc := 164) 99 dX5_keepDraft_164 (by decide) ?_
            refine zt_S (S' := zu (kdB i (itr (kdM (dN 9 (S 289))) (kd1 S) i)) 300 i (kdA (kdB i (itr (kdM (dN 9 (S 289))) (kd1 S) i)) i (t + 1))) (zu_zu _ _ _ _ _) ?_
            exact ih_t
          · refine zt_iconst (pc := 152) dX5_keepDraft_152 (v := 1) rfl ?_
            refine zt_iload_n (pc := 153) dX5_keepDraft_153 rfl rfl ?_
            refine zt_ishl (pc := 154) dX5_keepDraft_154 ?_
            refine zt_goto (pc := 155) 159 dX5_keepDraft_155 (by decide) ?_
            refine zt_top (pc := 159) (if (kdB i (itr (kdM (dN 9 (S 289))) (kd1 S) i)) 290 t &&& (kdB i (itr (kdM (dN 9 (S 289))) (kd1 S) i)) 291 i = (kdB i (itr (kdM (dN 9 (S 289))) (kd1 S) i)) 291 i ∧ (kdB i (itr (kdM (dN 9 (S 289))) (kd1 S) i)) 290 t &&& (kdB i (itr (kdM (dN 9 (S 289))) (kd1 S) i)) 292 i = 0 then (1 : Int32) <<< (nI t &&& 31) else 0) ((if_pos ⟨c_133, c_149⟩).symm) ?_
            refine zt_ior (pc := 159) dX5_keepDraft_159 ?_
            refine wt_iast (pc := 160) 12 i dX5_keepDraft_160 (ma_are hM) rfl rfl (by omega) ?_
            refine zt_iincN (pc := 161) (b := t + 1) (L' := [some (.ref 289), some (.int (nI i)), some (.int (nI (t + 1)))]) dX5_keepDraft_161 rfl (zinc1 t) (by decide) rfl rfl ?_
            refine zt_goto (pc := 164) 99 dX5_keepDraft_164 (by decide) ?_
            refine zt_S (S' := zu (kdB i (itr (kdM (dN 9 (S 289))) (kd1 S) i)) 300 i (kdA (kdB i (itr (kdM (dN 9 (S 289))) (kd1 S) i)) i (t + 1))) (zu_zu _ _ _ _ _) ?_
            exact ih_t
  · show Zt _ _ _ _ _ _ (zW h (itr kdH (kd0 S) i)) 34 [some (.ref 289), some (.int (nI i)), none] []
    refine zt_iload_n (pc := 34) dX5_keepDraft_34 rfl rfl ?_
    refine zt_bipush (pc := 35) dX5_keepDraft_35 (v := 8) rfl ?_
    refine zt_geN (a := i) (b := 8) (pc := 37) 58 dX5_keepDraft_37 (by decide) (by omega) (by omega) (fun c_37 => absurd hi_i (Nat.not_lt.mpr c_37)) (fun c_37 => ?_)
    refine zt_aload_n (pc := 40) dX5_keepDraft_40 rfl rfl ?_
    refine wt_getR (pc := 41) 5 1 dX5_keepDraft_41 q1273 rfl (ms_o hM) (mr_thing hM) ?_
    refine zt_iload_n (pc := 44) dX5_keepDraft_44 rfl rfl ?_
    refine zt_aload_n (pc := 45) dX5_keepDraft_45 rfl rfl ?_
    refine wt_getR (pc := 46) 5 10 dX5_keepDraft_46 q1282 rfl (ms_o hM) (mr_dThing hM) ?_
    refine zt_iload_n (pc := 49) dX5_keepDraft_49 rfl rfl ?_
    refine wt_iald (pc := 50) 8 i (v := (itr kdH (kd0 S) i) 295 i) dX5_keepDraft_50 (ma_dThing hM) rfl rfl (by omega) rfl ?_
    refine wt_iast (pc := 51) 8 i dX5_keepDraft_51 (ma_thing hM) rfl rfl (by omega) ?_
    refine zt_iincN (pc := 52) (b := i + 1) (L' := [some (.ref 289), some (.int (nI (i + 1))), none]) dX5_keepDraft_52 rfl (zinc1 i) (by decide) rfl rfl ?_
    refine zt_goto (pc := 55) 34 dX5_keepDraft_55 (by decide) ?_
    exact ih_i

end M21