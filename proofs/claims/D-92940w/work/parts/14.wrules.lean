/-! RULES over a heap zW h S (shapes and references of h, ints S); calls with one outcome; loops -/
set_option maxRecDepth 100000
def zW (h : ZH) (S : Nat → Nat → Int32) : ZH := (h.1, h.2.1, S, h.2.2.2)
theorem zW_self (h : ZH) : zW h h.2.2.1 = h := rfl
def zbI (c k : Nat) : Bool := Nat.blt c 13 && (Nat.blt k (zNf c) && !(zty c k).isReference)
def zbR (c k : Nat) : Bool := Nat.blt c 13 && (Nat.blt k (zNf c) && (zty c k).isReference)
def zbP (c k : Nat) : Bool := zbI c k && (!(zT c k).2.2.2 && decide (zty c k = .int))
theorem zbI_spec {c k : Nat} (h : zbI c k = true) : c < 13 ∧ k < zNf c ∧ (zty c k).isReference = false := by
  simp only [zbI, Bool.and_eq_true, Nat.blt_eq, Bool.not_eq_true'] at h
  exact h
theorem zbR_spec {c k : Nat} (h : zbR c k = true) : c < 13 ∧ k < zNf c ∧ (zty c k).isReference = true := by
  simp only [zbR, Bool.and_eq_true, Nat.blt_eq] at h
  exact h
theorem zbP_spec {c k : Nat} (h : zbP c k = true) : (c < 13 ∧ k < zNf c ∧ (zty c k).isReference = false) ∧ (zT c k).2.2.2 = false ∧ zty c k = .int := by
  simp only [zbP, Bool.and_eq_true, Bool.not_eq_true', decide_eq_true_eq] at h
  exact ⟨zbI_spec h.1, h.2⟩
/-- one outcome -/
abbrev Zd (g : ZG) (M : ZM) (d mc ms : Nat) (As : List Value) (h : ZH) (r : Option Value) (h2 : ZH) : Prop := Zc g M d mc ms As h (fun r' h' => r' = r ∧ h' = h2)
def bI (p : Prop) [Decidable p] : Int32 := if p then 1 else 0
theorem bI_t {p : Prop} [Decidable p] (h : p) : bI p = 1 := if_pos h
theorem bI_f {p : Prop} [Decidable p] (h : ¬ p) : bI p = 0 := if_neg h
theorem bI_or {p : Prop} [Decidable p] : bI p = 0 ∨ bI p = 1 := by by_cases h : p <;> simp [bI, h]
theorem bI_eq1 {p : Prop} [Decidable p] : bI p = 1 ↔ p := by by_cases h : p <;> simp [bI, h]
theorem bI_eq0 {p : Prop} [Decidable p] : bI p = 0 ↔ ¬ p := by by_cases h : p <;> simp [bI, h]
/-- downwards from the end -/
theorem zfor (Z : Nat → Prop) (N : Nat) (hend : Z N) (hstep : ∀ i, i < N → Z (i + 1) → Z i) : Z 0 := by
  have key : ∀ k i, i + k = N → Z i := by
    intro k
    induction k with
    | zero => intro i hi; have e : i = N := by omega
              rw [e]; exact hend
    | succ k ih => intro i hi; exact hstep i (by omega) (ih (i + 1) (by omega))
  exact key N 0 (by omega)
theorem zforI (Z : Nat → Prop) (i0 N : Nat) (h0 : i0 ≤ N) (hend : Z N) (hstep : ∀ i, i0 ≤ i → i < N → Z (i + 1) → Z i) : Z i0 := by
  have key : ∀ k i, i0 ≤ i → i + k = N → Z i := by
    intro k
    induction k with
    | zero => intro i _ hi; have e : i = N := by omega
              rw [e]; exact hend
    | succ k ih => intro i h1 hi; exact hstep i h1 (by omega) (ih (i + 1) (by omega) (by omega))
  exact key (N - i0) i0 (Nat.le_refl _) (by omega)
section ZTW
variable {g : ZG} {M : ZM} {d rc rs : Nat} {Q : Option Value → ZH → Prop} {h : ZH} {S S' : Nat → Nat → Int32} {pc : Nat} {L L' : List (Option Value)} {st : List Value}
theorem zt_top {x : Int32} (y : Int32) (e : x = y) (k : Zt g M d rc rs Q h pc L (.int y :: st)) : Zt g M d rc rs Q h pc L (.int x :: st) := e ▸ k
theorem zt_S (e : S = S') (k : Zt g M d rc rs Q (zW h S') pc L st) : Zt g M d rc rs Q (zW h S) pc L st := e ▸ k
theorem zt_L (e : L = L') (k : Zt g M d rc rs Q h pc L' st) : Zt g M d rc rs Q h pc L st := e ▸ k
theorem zt_SL (e : S = S') (e2 : L = L') (k : Zt g M d rc rs Q (zW h S') pc L' st) : Zt g M d rc rs Q (zW h S) pc L st := e ▸ e2 ▸ k
theorem zt_iaddN {a b : Nat} (hd : decode M.2.1 pc = .ok (.iadd, 1)) (k : Zt g M d rc rs Q h (pc + 1) L (.int (nI (a + b)) :: st)) : Zt g M d rc rs Q h pc L (.int (nI b) :: .int (nI a) :: st) := zt_iadd hd (by rw [nI_add]; exact k)
theorem zt_imulN {a b : Nat} (hd : decode M.2.1 pc = .ok (.imul, 1)) (k : Zt g M d rc rs Q h (pc + 1) L (.int (nI (a * b)) :: st)) : Zt g M d rc rs Q h pc L (.int (nI b) :: .int (nI a) :: st) := zt_imul hd (by rw [pk_mul]; exact k)
theorem zt_isubN {a b : Nat} (hd : decode M.2.1 pc = .ok (.isub, 1)) (hab : b ≤ a) (k : Zt g M d rc rs Q h (pc + 1) L (.int (nI (a - b)) :: st)) : Zt g M d rc rs Q h pc L (.int (nI b) :: .int (nI a) :: st) := zt_isub hd (by rw [pk_sub hab]; exact k)
theorem zt_iincN {i a b : Nat} {n : Int} (hd : decode M.2.1 pc = .ok (.iinc i n, 3)) (hl : L[i]? = some (some (.int (nI a)))) (hv : nI a + Int32.ofInt n = nI b) (hn : i < M.2.2.1) (hk : zOk L i = true) (hL : L.set i (some (.int (nI b))) = L') (k : Zt g M d rc rs Q h (pc + 3) L' st) : Zt g M d rc rs Q h pc L st := zt_iinc hd hl hv hn hk hL k
/-- compares of numbers -/
theorem zt_geN {a b : Nat} {off : Int} (tgt : Nat) (hd : decode M.2.1 pc = .ok (.if_icmp .ge off, 3)) (ht : (pc : Int) + off = (tgt : Int)) (ha : a < 2 ^ 31) (hb : b < 2 ^ 31) (kt : b ≤ a → Zt g M d rc rs Q h tgt L st) (kf : a < b → Zt g M d rc rs Q h (pc + 3) L st) : Zt g M d rc rs Q h pc L (.int (nI b) :: .int (nI a) :: st) :=
  zt_icmp_ge tgt hd ht (fun c => kt ((nI_leI hb ha).mp c)) (fun c => kf (Nat.not_le.mp (fun q => c ((nI_leI hb ha).mpr q))))
theorem wt_getI (c k : Nat) {idx a : Nat} {v : Int32} (hd : decode M.2.1 pc = .ok (.getfield idx, 3)) (hl : Cond.fieldLink M.1.cls idx (zT c k).1 (zT c k).2.1 (zT c k).2.2.1 ∈ lw_all) (hb : zbI c k = true) (hs : h.2.1 a = .inl c) (hv : S a k = v) (kk : Zt g M d rc rs Q (zW h S) (pc + 3) L (.int v :: st)) : Zt g M d rc rs Q (zW h S) pc L (.ref a :: st) := by
  subst hv
  obtain ⟨h1, h2, h3⟩ := zbI_spec hb
  exact zt_getI c k hd hl h1 h2 h3 hs kk
theorem wt_getIN (c k : Nat) {idx a : Nat} {host : String} {v : Int32} (hd : decode M.2.1 pc = .ok (.getfield idx, 3)) (hl : Cond.fieldLinkNest M.1.cls idx (zT c k).1 (zT c k).2.1 (zT c k).2.2.1 host ∈ lw_tbl) (hb : zbI c k = true) (hs : h.2.1 a = .inl c) (hv : S a k = v) (kk : Zt g M d rc rs Q (zW h S) (pc + 3) L (.int v :: st)) : Zt g M d rc rs Q (zW h S) pc L (.ref a :: st) := by
  subst hv
  obtain ⟨h1, h2, h3⟩ := zbI_spec hb
  exact zt_getIN c k hd hl h1 h2 h3 hs kk
theorem wt_getR (c k : Nat) {idx a b : Nat} (hd : decode M.2.1 pc = .ok (.getfield idx, 3)) (hl : Cond.fieldLink M.1.cls idx (zT c k).1 (zT c k).2.1 (zT c k).2.2.1 ∈ lw_all) (hb : zbR c k = true) (hs : h.2.1 a = .inl c) (hv : h.2.2.2 a k = some b) (kk : Zt g M d rc rs Q (zW h S) (pc + 3) L (.ref b :: st)) : Zt g M d rc rs Q (zW h S) pc L (.ref a :: st) := by
  obtain ⟨h1, h2, h3⟩ := zbR_spec hb
  exact zt_getR c k hd hl h1 h2 h3 hs hv kk
theorem wt_getRN (c k : Nat) {idx a b : Nat} {host : String} (hd : decode M.2.1 pc = .ok (.getfield idx, 3)) (hl : Cond.fieldLinkNest M.1.cls idx (zT c k).1 (zT c k).2.1 (zT c k).2.2.1 host ∈ lw_tbl) (hb : zbR c k = true) (hs : h.2.1 a = .inl c) (hv : h.2.2.2 a k = some b) (kk : Zt g M d rc rs Q (zW h S) (pc + 3) L (.ref b :: st)) : Zt g M d rc rs Q (zW h S) pc L (.ref a :: st) := by
  obtain ⟨h1, h2, h3⟩ := zbR_spec hb
  exact zt_getRN c k hd hl h1 h2 h3 hs hv kk
theorem wt_putI (c k : Nat) {idx a : Nat} {v : Int32} (hd : decode M.2.1 pc = .ok (.putfield idx, 3)) (hl : Cond.fieldLink M.1.cls idx (zT c k).1 (zT c k).2.1 (zT c k).2.2.1 ∈ lw_all) (hb : zbP c k = true) (hs : h.2.1 a = .inl c) (kk : Zt g M d rc rs Q (zW h (zu S a k v)) (pc + 3) L st) : Zt g M d rc rs Q (zW h S) pc L (.int v :: .ref a :: st) := by
  obtain ⟨⟨h1, h2, h3⟩, h4, h5⟩ := zbP_spec hb
  exact zt_putI c k hd hl h1 h2 h4 h3 hs (by rw [h5]; rfl) (by rw [h5]; rfl) kk
theorem wt_putIN (c k : Nat) {idx a : Nat} {host : String} {v : Int32} (hd : decode M.2.1 pc = .ok (.putfield idx, 3)) (hl : Cond.fieldLinkNest M.1.cls idx (zT c k).1 (zT c k).2.1 (zT c k).2.2.1 host ∈ lw_tbl) (hb : zbP c k = true) (hs : h.2.1 a = .inl c) (kk : Zt g M d rc rs Q (zW h (zu S a k v)) (pc + 3) L st) : Zt g M d rc rs Q (zW h S) pc L (.int v :: .ref a :: st) := by
  obtain ⟨⟨h1, h2, h3⟩, h4, h5⟩ := zbP_spec hb
  exact zt_putIN c k hd hl h1 h2 h4 h3 hs (by rw [h5]; rfl) (by rw [h5]; rfl) kk
theorem znb {n : Nat} (h : Nat.ble n 1000000 = true) : n < 2 ^ 31 := Nat.lt_of_le_of_lt (Nat.le_of_ble_eq_true h) (by decide)
theorem wt_iald (n j : Nat) {i v : Int32} {a : Nat} (hd : decode M.2.1 pc = .ok (.iaload, 1)) (hs : h.2.1 a = .inr (0, n)) (hn : Nat.ble n 1000000 = true) (hi : i = nI j) (hj : j < n) (hv : S a j = v) (kk : Zt g M d rc rs Q (zW h S) (pc + 1) L (.int v :: st)) : Zt g M d rc rs Q (zW h S) pc L (.int i :: .ref a :: st) := by
  subst hv
  exact zt_iald n j hd hs (znb hn) hi hj kk
theorem wt_bald (n j : Nat) {i v : Int32} {a : Nat} (hd : decode M.2.1 pc = .ok (.baload, 1)) (hs : h.2.1 a = .inr (1, n)) (hn : Nat.ble n 1000000 = true) (hi : i = nI j) (hj : j < n) (hv : S a j = v) (kk : Zt g M d rc rs Q (zW h S) (pc + 1) L (.int v :: st)) : Zt g M d rc rs Q (zW h S) pc L (.int i :: .ref a :: st) := by
  subst hv
  exact zt_bald n j hd hs (znb hn) hi hj kk
theorem wt_sald (n j : Nat) {i v : Int32} {a : Nat} (hd : decode M.2.1 pc = .ok (.saload, 1)) (hs : h.2.1 a = .inr (2, n)) (hn : Nat.ble n 1000000 = true) (hi : i = nI j) (hj : j < n) (hv : S a j = v) (kk : Zt g M d rc rs Q (zW h S) (pc + 1) L (.int v :: st)) : Zt g M d rc rs Q (zW h S) pc L (.int i :: .ref a :: st) := by
  subst hv
  exact zt_sald n j hd hs (znb hn) hi hj kk
theorem wt_zald (n j : Nat) {i v : Int32} {a : Nat} (hd : decode M.2.1 pc = .ok (.baload, 1)) (hs : h.2.1 a = .inr (3, n)) (hn : Nat.ble n 1000000 = true) (hi : i = nI j) (hj : j < n) (hv : S a j = v) (kk : Zt g M d rc rs Q (zW h S) (pc + 1) L (.int v :: st)) : Zt g M d rc rs Q (zW h S) pc L (.int i :: .ref a :: st) := by
  subst hv
  exact zt_zald n j hd hs (znb hn) hi hj kk
theorem wt_aald (t n j : Nat) {i : Int32} {a b : Nat} (hd : decode M.2.1 pc = .ok (.aaload, 1)) (ht : Nat.ble 4 t = true) (ht2 : Nat.blt t 11 = true) (hs : h.2.1 a = .inr (t, n)) (hn : Nat.ble n 1000000 = true) (hi : i = nI j) (hj : j < n) (hv : h.2.2.2 a j = some b) (kk : Zt g M d rc rs Q (zW h S) (pc + 1) L (.ref b :: st)) : Zt g M d rc rs Q (zW h S) pc L (.int i :: .ref a :: st) :=
  zt_aald t n j hd (Nat.le_of_ble_eq_true ht) (Nat.blt_eq.mp ht2) hs (znb hn) hi hj hv kk
theorem wt_alen (t n : Nat) {a : Nat} {v : Int32} (hd : decode M.2.1 pc = .ok (.arraylength, 1)) (ht2 : Nat.blt t 11 = true) (hs : h.2.1 a = .inr (t, n)) (hv : Int32.ofNat n = v) (kk : Zt g M d rc rs Q (zW h S) (pc + 1) L (.int v :: st)) : Zt g M d rc rs Q (zW h S) pc L (.ref a :: st) :=
  zt_alen t n hd (Nat.blt_eq.mp ht2) hs hv kk
theorem wt_iast (n j : Nat) {i x : Int32} {a : Nat} (hd : decode M.2.1 pc = .ok (.iastore, 1)) (hs : h.2.1 a = .inr (0, n)) (hn : Nat.ble n 1000000 = true) (hi : i = nI j) (hj : j < n) (kk : Zt g M d rc rs Q (zW h (zu S a j x)) (pc + 1) L st) : Zt g M d rc rs Q (zW h S) pc L (.int x :: .int i :: .ref a :: st) :=
  zt_iast n j hd hs (znb hn) hi hj kk
theorem wt_bast (n j : Nat) {i x : Int32} {a : Nat} (hd : decode M.2.1 pc = .ok (.bastore, 1)) (hs : h.2.1 a = .inr (1, n)) (hn : Nat.ble n 1000000 = true) (hi : i = nI j) (hj : j < n) (hx : narrow .byte (.int x) = .int x) (kk : Zt g M d rc rs Q (zW h (zu S a j x)) (pc + 1) L st) : Zt g M d rc rs Q (zW h S) pc L (.int x :: .int i :: .ref a :: st) :=
  zt_bast n j hd hs (znb hn) hi hj hx kk
theorem wt_sast (n j : Nat) {i x : Int32} {a : Nat} (hd : decode M.2.1 pc = .ok (.sastore, 1)) (hs : h.2.1 a = .inr (2, n)) (hn : Nat.ble n 1000000 = true) (hi : i = nI j) (hj : j < n) (hx : narrow .short (.int x) = .int x) (kk : Zt g M d rc rs Q (zW h (zu S a j x)) (pc + 1) L st) : Zt g M d rc rs Q (zW h S) pc L (.int x :: .int i :: .ref a :: st) :=
  zt_sast n j hd hs (znb hn) hi hj hx kk
theorem wt_zast (n j : Nat) {i x : Int32} {a : Nat} (hd : decode M.2.1 pc = .ok (.bastore, 1)) (hs : h.2.1 a = .inr (3, n)) (hn : Nat.ble n 1000000 = true) (hi : i = nI j) (hj : j < n) (hx : narrow .boolean (.int x) = .int x) (kk : Zt g M d rc rs Q (zW h (zu S a j x)) (pc + 1) L st) : Zt g M d rc rs Q (zW h S) pc L (.int x :: .int i :: .ref a :: st) :=
  zt_zast n j hd hs (znb hn) hi hj hx kk
/-- calls with one outcome -/
theorem wt_callV (M' : ZM) (n c : Nat) {idx d' mc' ms' rc' rs' b : Nat} {As st0 : List Value} {r : Option Value} {h2 : ZH} (hd : decode M.2.1 pc = .ok (.invokevirtual idx, 3)) (hl : Cond.methodLink M.1.cls idx M'.1 ∈ lw_all) (hM : zMi M' n) (hc : Nat.blt c 13 = true) (hcn : M'.1.cls = zC c) (hs : h.2.1 b = .inl c) (hct : Zd g M' d' mc' ms' (.ref b :: As) h r h2) (hn : As.length = n) (hst : st0 = As.reverse ++ .ref b :: st) (hdd : Nat.ble (d' + 1) d = true) (hw : Nat.ble (st.map fun v => v.category).sum 8 = true) (hrc : Nat.ble (rc' + mc') rc = true) (hrs : Nat.ble (rs' + ms') rs = true)
    (kk : Zt g M d rc' rs' Q h2 (pc + 3) L (r.toList ++ st)) : Zt g M d rc rs Q h pc L st0 :=
  zt_callV M' n c hd hl hM (Nat.blt_eq.mp hc) hcn hs hct hn hst (Nat.le_of_ble_eq_true hdd) (Nat.le_of_ble_eq_true hw) (Nat.le_of_ble_eq_true hrc) (Nat.le_of_ble_eq_true hrs) (fun r' h' q => by rw [q.1, q.2]; exact kk)
theorem wt_callS (M' : ZM) (n : Nat) {idx d' mc' ms' rc' rs' : Nat} {As st0 : List Value} {r : Option Value} {h2 : ZH} (hd : decode M.2.1 pc = .ok (.invokestatic idx, 3)) (hl : Cond.methodLink M.1.cls idx M'.1 ∈ lw_all) (hM : zMs M' n) (hct : Zd g M' d' mc' ms' As h r h2) (hn : As.length = n) (hst : st0 = As.reverse ++ st) (hdd : Nat.ble (d' + 1) d = true) (hw : Nat.ble (st.map fun v => v.category).sum 8 = true) (hrc : Nat.ble (rc' + mc') rc = true) (hrs : Nat.ble (rs' + ms') rs = true)
    (kk : Zt g M d rc' rs' Q h2 (pc + 3) L (r.toList ++ st)) : Zt g M d rc rs Q h pc L st0 :=
  zt_callS M' n hd hl hM hct hn hst (Nat.le_of_ble_eq_true hdd) (Nat.le_of_ble_eq_true hw) (Nat.le_of_ble_eq_true hrc) (Nat.le_of_ble_eq_true hrs) (fun r' h' q => by rw [q.1, q.2]; exact kk)
end ZTW
section ZTL
variable {g : ZG} {M : ZM} {d rc rs : Nat} {Q : Option Value → ZH → Prop} {h : ZH} {S : Nat → Nat → Int32} {pc : Nat} {L : List (Option Value)} {st : List Value}
theorem zt_for (Sf : Nat → Nat → Nat → Int32) (Lf : Nat → List (Option Value)) (N : Nat) (hS : S = Sf 0) (hL : L = Lf 0) (hend : Zt g M d rc rs Q (zW h (Sf N)) pc (Lf N) st) (hstep : ∀ i, i < N → Zt g M d rc rs Q (zW h (Sf (i + 1))) pc (Lf (i + 1)) st → Zt g M d rc rs Q (zW h (Sf i)) pc (Lf i) st) : Zt g M d rc rs Q (zW h S) pc L st := by
  rw [hS, hL]
  exact zfor (fun i => Zt g M d rc rs Q (zW h (Sf i)) pc (Lf i) st) N hend hstep
theorem zt_forI (Sf : Nat → Nat → Nat → Int32) (Lf : Nat → List (Option Value)) (i0 N : Nat) (h0 : i0 ≤ N) (hS : S = Sf i0) (hL : L = Lf i0) (hend : Zt g M d rc rs Q (zW h (Sf N)) pc (Lf N) st) (hstep : ∀ i, i0 ≤ i → i < N → Zt g M d rc rs Q (zW h (Sf (i + 1))) pc (Lf (i + 1)) st → Zt g M d rc rs Q (zW h (Sf i)) pc (Lf i) st) : Zt g M d rc rs Q (zW h S) pc L st := by
  rw [hS, hL]
  exact zforI (fun i => Zt g M d rc rs Q (zW h (Sf i)) pc (Lf i) st) i0 N h0 hend hstep
end ZTL
theorem zinc1 (i : Nat) : nI i + Int32.ofInt 1 = nI (i + 1) := nI_1 i
theorem zinc3 (i : Nat) : nI i + Int32.ofInt 3 = nI (i + 3) := nI_add i 3
theorem zinc5 (i : Nat) : nI i + Int32.ofInt 5 = nI (i + 5) := nI_add i 5
/-- an array's contents replaced -/
def zs (S : Nat → Nat → Int32) (a : Nat) (f : Nat → Int32) : Nat → Nat → Int32 := fun a' => if a' = a then f else S a'
theorem zs_at (S : Nat → Nat → Int32) (a : Nat) (f : Nat → Int32) : zs S a f a = f := if_pos rfl
theorem zs_ne {S : Nat → Nat → Int32} {a b : Nat} {f : Nat → Int32} (h : b ≠ a) : zs S a f b = S b := if_neg h
theorem zs_self (S : Nat → Nat → Int32) (a : Nat) : zs S a (S a) = S := by
  funext b
  by_cases h : b = a
  · rw [h, zs_at]
  · rw [zs_ne h]
theorem zs_zs (S : Nat → Nat → Int32) (a : Nat) (f f' : Nat → Int32) : zs (zs S a f) a f' = zs S a f' := by
  funext b
  by_cases h : b = a
  · rw [h, zs_at, zs_at]
  · rw [zs_ne h, zs_ne h, zs_ne h]
theorem zs_zu (S : Nat → Nat → Int32) (a : Nat) (f : Nat → Int32) (k : Nat) (v : Int32) : zu (zs S a f) a k v = zs S a (upd f k v) := by
  funext b j
  by_cases h : b = a
  · subst h
    rw [zs_at]
    unfold zu upd
    by_cases hj : j = k
    · rw [if_pos ⟨rfl, hj⟩, if_pos hj]
    · rw [if_neg (fun q => hj q.2), if_neg hj, zs_at]
  · rw [zu_ne1 h, zs_ne h, zs_ne h]
theorem zu_zs (S : Nat → Nat → Int32) (a k : Nat) (v : Int32) : zu S a k v = zs S a (upd (S a) k v) := by
  have := zs_zu S a (S a) k v
  rw [zs_self] at this
  exact this
section ZTD
variable {g : ZG} {M : ZM} {d rc rs : Nat} {Q : Option Value → ZH → Prop} {h : ZH} {S : Nat → Nat → Int32} {f : Nat → Int32} {pc : Nat} {L L' : List (Option Value)} {st : List Value}
theorem wt_iastS (n j : Nat) {i x : Int32} {a : Nat} (hd : decode M.2.1 pc = .ok (.iastore, 1)) (hs : h.2.1 a = .inr (0, n)) (hn : Nat.ble n 1000000 = true) (hi : i = nI j) (hj : j < n) (kk : Zt g M d rc rs Q (zW h (zs S a (upd f j x))) (pc + 1) L st) : Zt g M d rc rs Q (zW h (zs S a f)) pc L (.int x :: .int i :: .ref a :: st) :=
  wt_iast n j hd hs hn hi hj (by rw [zs_zu]; exact kk)
/-- fewer locals known -/
theorem zt_drop (i : Nat) (hL : L.set i none = L') (k : Zt g M d rc rs Q h pc L' st) : Zt g M d rc rs Q h pc L st := by
  intro p e s m args below meth c H locs cells slots mc ms ls hC h1 h2 h3 h4 h5
  refine k p e s m args below meth c H locs cells slots mc ms ls hC h1 h2 h3 h4 ⟨h5.1, h5.2.1, fun j v hj => ?_⟩
  subst hL
  by_cases hij : j = i
  · subst hij
    have hlt : j < L.length := by
      have := (List.getElem?_eq_some_iff.mp hj).1
      simpa using this
    rw [List.getElem?_set_self hlt] at hj
    cases hj
  · rw [List.getElem?_set_ne (Ne.symm hij)] at hj
    exact h5.2.2 j v hj
end ZTD
section ZTP
variable {g : ZG} {M : ZM} {d rc rs : Nat} {Q : Option Value → ZH → Prop} {h : ZH} {S : Nat → Nat → Int32} {pc : Nat} {L : List (Option Value)} {st : List Value}
/-- a loop with a fact that goes along -/
theorem zt_forP (I : Nat → Prop) (Sf : Nat → Nat → Nat → Int32) (Lf : Nat → List (Option Value)) (i0 N : Nat) (hN : i0 ≤ N) (h0 : I i0) (hS : S = Sf i0) (hL : L = Lf i0) (hend : I N → Zt g M d rc rs Q (zW h (Sf N)) pc (Lf N) st) (hstep : ∀ i, i0 ≤ i → i < N → I i → (I (i + 1) → Zt g M d rc rs Q (zW h (Sf (i + 1))) pc (Lf (i + 1)) st) → Zt g M d rc rs Q (zW h (Sf i)) pc (Lf i) st) : Zt g M d rc rs Q (zW h S) pc L st := by
  rw [hS, hL]
  exact zforI (fun i => I i → Zt g M d rc rs Q (zW h (Sf i)) pc (Lf i) st) i0 N hN hend (fun i a b c e => hstep i a b e c) h0
end ZTP
section ZTF
variable {g : ZG} {M : ZM} {d rc rs : Nat} {Q : Option Value → ZH → Prop} {h : ZH} {S : Nat → Nat → Int32} {f f' : Nat → Int32} {pc : Nat} {L : List (Option Value)} {st : List Value}
theorem wt_putIS (c k : Nat) {idx a : Nat} {v : Int32} (hd : decode M.2.1 pc = .ok (.putfield idx, 3)) (hl : Cond.fieldLink M.1.cls idx (zT c k).1 (zT c k).2.1 (zT c k).2.2.1 ∈ lw_all) (hb : zbP c k = true) (hs : h.2.1 a = .inl c) (kk : Zt g M d rc rs Q (zW h (zs S a (upd f k v))) (pc + 3) L st) : Zt g M d rc rs Q (zW h (zs S a f)) pc L (.int v :: .ref a :: st) :=
  wt_putI c k hd hl hb hs (by rw [zs_zu]; exact kk)
theorem zt_f {a : Nat} (e : f = f') (k : Zt g M d rc rs Q (zW h (zs S a f')) pc L st) : Zt g M d rc rs Q (zW h (zs S a f)) pc L st := e ▸ k
end ZTF
theorem upd_upd (f : Nat → Int32) (k : Nat) (v v' : Int32) : upd (upd f k v) k v' = upd f k v' := by
  funext j
  unfold upd
  split <;> rfl
theorem upd_self (f : Nat → Int32) (k : Nat) (v : Int32) (h : f k = v) : upd f k v = f := by
  funext j
  unfold upd
  split
  next e => rw [e, h]
  next => rfl
