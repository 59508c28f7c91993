/-! THE TWIN, part 1: leaves -/
set_option maxRecDepth 100000
/-! the twin: object 289, its arrays behind it -/
def MS (sh : Nat → ZS) (r : Nat → Nat → Option Nat) : Prop := sh 289 = .inl 5 ∧ (r 289 1 = some 290 ∧ sh 290 = .inr (0, 8)) ∧ (r 289 3 = some 291 ∧ sh 291 = .inr (0, 12)) ∧ (r 289 4 = some 292 ∧ sh 292 = .inr (0, 12)) ∧ (r 289 6 = some 293 ∧ sh 293 = .inr (0, 4)) ∧ (r 289 8 = some 294 ∧ sh 294 = .inr (0, 30)) ∧ (r 289 10 = some 295 ∧ sh 295 = .inr (0, 8)) ∧ (r 289 12 = some 296 ∧ sh 296 = .inr (0, 12)) ∧ (r 289 13 = some 297 ∧ sh 297 = .inr (0, 12)) ∧ (r 289 15 = some 298 ∧ sh 298 = .inr (0, 4)) ∧ (r 289 17 = some 299 ∧ sh 299 = .inr (0, 30)) ∧ (r 289 18 = some 300 ∧ sh 300 = .inr (0, 12)) ∧ (r 289 19 = some 301 ∧ sh 301 = .inr (0, 400)) ∧ (r 289 27 = some 302 ∧ sh 302 = .inr (0, 210)) ∧ (r 289 29 = some 303 ∧ sh 303 = .inr (0, 72)) ∧ (r 289 30 = some 304 ∧ sh 304 = .inr (0, 5)) ∧ (r 289 31 = some 305 ∧ sh 305 = .inr (0, 4)) ∧ (r 289 32 = some 306 ∧ sh 306 = .inr (0, 4)) ∧ (r 289 35 = some 307 ∧ sh 307 = .inr (0, 12)) ∧ (r 289 36 = some 308 ∧ sh 308 = .inr (3, 12)) ∧ (r 289 37 = some 309 ∧ sh 309 = .inr (3, 2)) ∧ (r 289 38 = some 310 ∧ sh 310 = .inr (0, 6)) ∧ (r 289 39 = some 311 ∧ sh 311 = .inr (0, 144)) ∧ (r 289 40 = some 312 ∧ sh 312 = .inr (0, 48)) ∧ (r 289 41 = some 313 ∧ sh 313 = .inr (0, 4)) ∧ (r 289 42 = some 314 ∧ sh 314 = .inr (0, 4)) ∧ (r 289 43 = some 315 ∧ sh 315 = .inr (0, 160))
theorem ms_o {sh : Nat → ZS} {r : Nat → Nat → Option Nat} (h : MS sh r) : sh 289 = .inl 5 := h.1
theorem mr_thing {sh : Nat → ZS} {r : Nat → Nat → Option Nat} (h : MS sh r) : r 289 1 = some 290 := h.2.1.1
theorem ma_thing {sh : Nat → ZS} {r : Nat → Nat → Option Nat} (h : MS sh r) : sh 290 = .inr (0, 8) := h.2.1.2
theorem mr_having {sh : Nat → ZS} {r : Nat → Nat → Option Nat} (h : MS sh r) : r 289 3 = some 291 := h.2.2.1.1
theorem ma_having {sh : Nat → ZS} {r : Nat → Nat → Option Nat} (h : MS sh r) : sh 291 = .inr (0, 12) := h.2.2.1.2
theorem mr_lacking {sh : Nat → ZS} {r : Nat → Nat → Option Nat} (h : MS sh r) : r 289 4 = some 292 := h.2.2.2.1.1
theorem ma_lacking {sh : Nat → ZS} {r : Nat → Nat → Option Nat} (h : MS sh r) : sh 292 = .inr (0, 12) := h.2.2.2.1.2
theorem mr_target {sh : Nat → ZS} {r : Nat → Nat → Option Nat} (h : MS sh r) : r 289 6 = some 293 := h.2.2.2.2.1.1
theorem ma_target {sh : Nat → ZS} {r : Nat → Nat → Option Nat} (h : MS sh r) : sh 293 = .inr (0, 4) := h.2.2.2.2.1.2
theorem mr_kind {sh : Nat → ZS} {r : Nat → Nat → Option Nat} (h : MS sh r) : r 289 8 = some 294 := h.2.2.2.2.2.1.1
theorem ma_kind {sh : Nat → ZS} {r : Nat → Nat → Option Nat} (h : MS sh r) : sh 294 = .inr (0, 30) := h.2.2.2.2.2.1.2
theorem mr_dThing {sh : Nat → ZS} {r : Nat → Nat → Option Nat} (h : MS sh r) : r 289 10 = some 295 := h.2.2.2.2.2.2.1.1
theorem ma_dThing {sh : Nat → ZS} {r : Nat → Nat → Option Nat} (h : MS sh r) : sh 295 = .inr (0, 8) := h.2.2.2.2.2.2.1.2
theorem mr_dHaving {sh : Nat → ZS} {r : Nat → Nat → Option Nat} (h : MS sh r) : r 289 12 = some 296 := h.2.2.2.2.2.2.2.1.1
theorem ma_dHaving {sh : Nat → ZS} {r : Nat → Nat → Option Nat} (h : MS sh r) : sh 296 = .inr (0, 12) := h.2.2.2.2.2.2.2.1.2
theorem mr_dLacking {sh : Nat → ZS} {r : Nat → Nat → Option Nat} (h : MS sh r) : r 289 13 = some 297 := h.2.2.2.2.2.2.2.2.1.1
theorem ma_dLacking {sh : Nat → ZS} {r : Nat → Nat → Option Nat} (h : MS sh r) : sh 297 = .inr (0, 12) := h.2.2.2.2.2.2.2.2.1.2
theorem mr_dTarget {sh : Nat → ZS} {r : Nat → Nat → Option Nat} (h : MS sh r) : r 289 15 = some 298 := h.2.2.2.2.2.2.2.2.2.1.1
theorem ma_dTarget {sh : Nat → ZS} {r : Nat → Nat → Option Nat} (h : MS sh r) : sh 298 = .inr (0, 4) := h.2.2.2.2.2.2.2.2.2.1.2
theorem mr_dKind {sh : Nat → ZS} {r : Nat → Nat → Option Nat} (h : MS sh r) : r 289 17 = some 299 := h.2.2.2.2.2.2.2.2.2.2.1.1
theorem ma_dKind {sh : Nat → ZS} {r : Nat → Nat → Option Nat} (h : MS sh r) : sh 299 = .inr (0, 30) := h.2.2.2.2.2.2.2.2.2.2.1.2
theorem mr_are {sh : Nat → ZS} {r : Nat → Nat → Option Nat} (h : MS sh r) : r 289 18 = some 300 := h.2.2.2.2.2.2.2.2.2.2.2.1.1
theorem ma_are {sh : Nat → ZS} {r : Nat → Nat → Option Nat} (h : MS sh r) : sh 300 = .inr (0, 12) := h.2.2.2.2.2.2.2.2.2.2.2.1.2
theorem mr_tape {sh : Nat → ZS} {r : Nat → Nat → Option Nat} (h : MS sh r) : r 289 19 = some 301 := h.2.2.2.2.2.2.2.2.2.2.2.2.1.1
theorem ma_tape {sh : Nat → ZS} {r : Nat → Nat → Option Nat} (h : MS sh r) : sh 301 = .inr (0, 400) := h.2.2.2.2.2.2.2.2.2.2.2.2.1.2
theorem mr_st {sh : Nat → ZS} {r : Nat → Nat → Option Nat} (h : MS sh r) : r 289 27 = some 302 := h.2.2.2.2.2.2.2.2.2.2.2.2.2.1.1
theorem ma_st {sh : Nat → ZS} {r : Nat → Nat → Option Nat} (h : MS sh r) : sh 302 = .inr (0, 210) := h.2.2.2.2.2.2.2.2.2.2.2.2.2.1.2
theorem mr_shown {sh : Nat → ZS} {r : Nat → Nat → Option Nat} (h : MS sh r) : r 289 29 = some 303 := h.2.2.2.2.2.2.2.2.2.2.2.2.2.2.1.1
theorem ma_shown {sh : Nat → ZS} {r : Nat → Nat → Option Nat} (h : MS sh r) : sh 303 = .inr (0, 72) := h.2.2.2.2.2.2.2.2.2.2.2.2.2.2.1.2
theorem mr_row {sh : Nat → ZS} {r : Nat → Nat → Option Nat} (h : MS sh r) : r 289 30 = some 304 := h.2.2.2.2.2.2.2.2.2.2.2.2.2.2.2.1.1
theorem ma_row {sh : Nat → ZS} {r : Nat → Nat → Option Nat} (h : MS sh r) : sh 304 = .inr (0, 5) := h.2.2.2.2.2.2.2.2.2.2.2.2.2.2.2.1.2
theorem mr_way {sh : Nat → ZS} {r : Nat → Nat → Option Nat} (h : MS sh r) : r 289 31 = some 305 := h.2.2.2.2.2.2.2.2.2.2.2.2.2.2.2.2.1.1
theorem ma_way {sh : Nat → ZS} {r : Nat → Nat → Option Nat} (h : MS sh r) : sh 305 = .inr (0, 4) := h.2.2.2.2.2.2.2.2.2.2.2.2.2.2.2.2.1.2
theorem mr_bestWay {sh : Nat → ZS} {r : Nat → Nat → Option Nat} (h : MS sh r) : r 289 32 = some 306 := h.2.2.2.2.2.2.2.2.2.2.2.2.2.2.2.2.2.1.1
theorem ma_bestWay {sh : Nat → ZS} {r : Nat → Nat → Option Nat} (h : MS sh r) : sh 306 = .inr (0, 4) := h.2.2.2.2.2.2.2.2.2.2.2.2.2.2.2.2.2.1.2
theorem mr_theirThing {sh : Nat → ZS} {r : Nat → Nat → Option Nat} (h : MS sh r) : r 289 35 = some 307 := h.2.2.2.2.2.2.2.2.2.2.2.2.2.2.2.2.2.2.1.1
theorem ma_theirThing {sh : Nat → ZS} {r : Nat → Nat → Option Nat} (h : MS sh r) : sh 307 = .inr (0, 12) := h.2.2.2.2.2.2.2.2.2.2.2.2.2.2.2.2.2.2.1.2
theorem mr_theirSo {sh : Nat → ZS} {r : Nat → Nat → Option Nat} (h : MS sh r) : r 289 36 = some 308 := h.2.2.2.2.2.2.2.2.2.2.2.2.2.2.2.2.2.2.2.1.1
theorem ma_theirSo {sh : Nat → ZS} {r : Nat → Nat → Option Nat} (h : MS sh r) : sh 308 = .inr (3, 12) := h.2.2.2.2.2.2.2.2.2.2.2.2.2.2.2.2.2.2.2.1.2
theorem mr_isKept {sh : Nat → ZS} {r : Nat → Nat → Option Nat} (h : MS sh r) : r 289 37 = some 309 := h.2.2.2.2.2.2.2.2.2.2.2.2.2.2.2.2.2.2.2.2.1.1
theorem ma_isKept {sh : Nat → ZS} {r : Nat → Nat → Option Nat} (h : MS sh r) : sh 309 = .inr (3, 2) := h.2.2.2.2.2.2.2.2.2.2.2.2.2.2.2.2.2.2.2.2.1.2
theorem mr_keptMany {sh : Nat → ZS} {r : Nat → Nat → Option Nat} (h : MS sh r) : r 289 38 = some 310 := h.2.2.2.2.2.2.2.2.2.2.2.2.2.2.2.2.2.2.2.2.2.1.1
theorem ma_keptMany {sh : Nat → ZS} {r : Nat → Nat → Option Nat} (h : MS sh r) : sh 310 = .inr (0, 6) := h.2.2.2.2.2.2.2.2.2.2.2.2.2.2.2.2.2.2.2.2.2.1.2
theorem mr_keptShown {sh : Nat → ZS} {r : Nat → Nat → Option Nat} (h : MS sh r) : r 289 39 = some 311 := h.2.2.2.2.2.2.2.2.2.2.2.2.2.2.2.2.2.2.2.2.2.2.1.1
theorem ma_keptShown {sh : Nat → ZS} {r : Nat → Nat → Option Nat} (h : MS sh r) : sh 311 = .inr (0, 144) := h.2.2.2.2.2.2.2.2.2.2.2.2.2.2.2.2.2.2.2.2.2.2.1.2
theorem mr_keptTheirs {sh : Nat → ZS} {r : Nat → Nat → Option Nat} (h : MS sh r) : r 289 40 = some 312 := h.2.2.2.2.2.2.2.2.2.2.2.2.2.2.2.2.2.2.2.2.2.2.2.1.1
theorem ma_keptTheirs {sh : Nat → ZS} {r : Nat → Nat → Option Nat} (h : MS sh r) : sh 312 = .inr (0, 48) := h.2.2.2.2.2.2.2.2.2.2.2.2.2.2.2.2.2.2.2.2.2.2.2.1.2
theorem mr_lanes {sh : Nat → ZS} {r : Nat → Nat → Option Nat} (h : MS sh r) : r 289 41 = some 313 := h.2.2.2.2.2.2.2.2.2.2.2.2.2.2.2.2.2.2.2.2.2.2.2.2.1.1
theorem ma_lanes {sh : Nat → ZS} {r : Nat → Nat → Option Nat} (h : MS sh r) : sh 313 = .inr (0, 4) := h.2.2.2.2.2.2.2.2.2.2.2.2.2.2.2.2.2.2.2.2.2.2.2.2.1.2
theorem mr_sizes {sh : Nat → ZS} {r : Nat → Nat → Option Nat} (h : MS sh r) : r 289 42 = some 314 := h.2.2.2.2.2.2.2.2.2.2.2.2.2.2.2.2.2.2.2.2.2.2.2.2.2.1.1
theorem ma_sizes {sh : Nat → ZS} {r : Nat → Nat → Option Nat} (h : MS sh r) : sh 314 = .inr (0, 4) := h.2.2.2.2.2.2.2.2.2.2.2.2.2.2.2.2.2.2.2.2.2.2.2.2.2.1.2
theorem mr_cells {sh : Nat → ZS} {r : Nat → Nat → Option Nat} (h : MS sh r) : r 289 43 = some 315 := h.2.2.2.2.2.2.2.2.2.2.2.2.2.2.2.2.2.2.2.2.2.2.2.2.2.2.1
theorem ma_cells {sh : Nat → ZS} {r : Nat → Nat → Option Nat} (h : MS sh r) : sh 315 = .inr (0, 160) := h.2.2.2.2.2.2.2.2.2.2.2.2.2.2.2.2.2.2.2.2.2.2.2.2.2.2.2

def itr {α : Type} (f : Nat → α → α) (a : α) : Nat → α
  | 0 => a
  | n + 1 => f n (itr f a n)
def cT (S : Nat → Nat → Int32) : Nat := (S 289 0).toNatClampNeg
def cM (S : Nat → Nat → Int32) : Nat := (S 289 2).toNatClampNeg
def cS (S : Nat → Nat → Int32) : Nat := (S 289 5).toNatClampNeg
def cK (S : Nat → Nat → Int32) : Nat := (S 289 7).toNatClampNeg
/-- a thought: none, or a meaning's number -/
def tk (v : Int32) : Prop := v = -4 ∨ ∃ j : Nat, j < 12 ∧ v = nI j
theorem tk.ix {v : Int32} (h : tk v) (hn : ¬ v = -4) : v = nI v.toNatClampNeg := by
  rcases h with h | ⟨j, hj, h⟩
  · exact absurd h hn
  · rw [h, nI_clamp (by omega)]
theorem tk.lt {v : Int32} (h : tk v) (hn : ¬ v = -4) : v.toNatClampNeg < 12 := by
  rcases h with h | ⟨j, hj, h⟩
  · exact absurd h hn
  · rw [h, nI_clamp (by omega)]; exact hj
/-- the counts are counts; the targets are meanings; fears are things -/
def CI (S : Nat → Nat → Int32) : Prop := S 289 0 = nI (cT S) ∧ cT S ≤ 8 ∧ S 289 2 = nI (cM S) ∧ cM S ≤ 12 ∧ S 289 5 = nI (cS S) ∧ cS S ≤ 4 ∧ S 289 7 = nI (cK S) ∧ cK S ≤ 6 ∧ (∀ s, s < 4 → ∃ j : Nat, j < 12 ∧ S 293 s = nI j) ∧ ∀ k, k < cK S → (∃ c : Nat, c ≤ 9 ∧ S 294 (5 * k + 4) = nI c) ∧ (S 294 (5 * k + 3) = 0 ∨ S 294 (5 * k + 3) = 1)
theorem CI.tg {S : Nat → Nat → Int32} (h : CI S) : ∀ s, s < 4 → ∃ j : Nat, j < 12 ∧ S 293 s = nI j := h.2.2.2.2.2.2.2.2.1
theorem CI.ch {S : Nat → Nat → Int32} (h : CI S) {k : Nat} (hk : k < cK S) : ∃ c : Nat, c ≤ 9 ∧ S 294 (5 * k + 4) = nI c := (h.2.2.2.2.2.2.2.2.2 k hk).1
theorem CI.t8 {S : Nat → Nat → Int32} (h : CI S) : cT S ≤ 8 := h.2.1
theorem CI.m12 {S : Nat → Nat → Int32} (h : CI S) : cM S ≤ 12 := h.2.2.2.1
theorem CI.s4 {S : Nat → Nat → Int32} (h : CI S) : cS S ≤ 4 := h.2.2.2.2.2.1
theorem CI.k6 {S : Nat → Nat → Int32} (h : CI S) : cK S ≤ 6 := h.2.2.2.2.2.2.2.1
/-- the same configuration -/
def CE (S C : Nat → Nat → Int32) : Prop := S 289 0 = C 289 0 ∧ S 289 2 = C 289 2 ∧ S 289 5 = C 289 5 ∧ S 289 7 = C 289 7 ∧ S 290 = C 290 ∧ S 291 = C 291 ∧ S 292 = C 292 ∧ S 293 = C 293 ∧ S 294 = C 294 ∧ S 300 = C 300
section CEs
variable {S C : Nat → Nat → Int32}
theorem CE.t (h : CE S C) (hC : CI C) : S 289 0 = nI (cT C) := h.1.trans hC.1
theorem CE.m (h : CE S C) (hC : CI C) : S 289 2 = nI (cM C) := h.2.1.trans hC.2.2.1
theorem CE.s (h : CE S C) (hC : CI C) : S 289 5 = nI (cS C) := h.2.2.1.trans hC.2.2.2.2.1
theorem CE.k (h : CE S C) (hC : CI C) : S 289 7 = nI (cK C) := h.2.2.2.1.trans hC.2.2.2.2.2.2.1
theorem CE.a290 (h : CE S C) : S 290 = C 290 := h.2.2.2.2.1
theorem CE.a291 (h : CE S C) : S 291 = C 291 := h.2.2.2.2.2.1
theorem CE.a292 (h : CE S C) : S 292 = C 292 := h.2.2.2.2.2.2.1
theorem CE.a293 (h : CE S C) : S 293 = C 293 := h.2.2.2.2.2.2.2.1
theorem CE.a294 (h : CE S C) : S 294 = C 294 := h.2.2.2.2.2.2.2.2.1
theorem CE.a300 (h : CE S C) : S 300 = C 300 := h.2.2.2.2.2.2.2.2.2
theorem CE.rf : CE S S := ⟨rfl, rfl, rfl, rfl, rfl, rfl, rfl, rfl, rfl, rfl⟩
theorem CE.z {f : Nat → Int32} {a : Nat} (h : CE S C) (ha : a < 289 ∨ 300 < a) : CE (zs S a f) C := by
  unfold CE
  rw [zs_ne (by omega), zs_ne (by omega), zs_ne (by omega), zs_ne (by omega), zs_ne (by omega), zs_ne (by omega), zs_ne (by omega)]
  exact h
theorem CE.u {a k : Nat} {v : Int32} (h : CE S C) (ha : a < 289 ∨ 300 < a) : CE (zu S a k v) C := by
  rw [zu_zs]
  exact h.z ha
theorem CE.f {k : Nat} {v : Int32} (h : CE S C) (h0 : k ≠ 0) (h2 : k ≠ 2) (h5 : k ≠ 5) (h7 : k ≠ 7) : CE (zu S 289 k v) C := by
  unfold CE
  rw [zu_ne2 (Ne.symm h0), zu_ne2 (Ne.symm h2), zu_ne2 (Ne.symm h5), zu_ne2 (Ne.symm h7)]
  refine ⟨h.1, h.2.1, h.2.2.1, h.2.2.2.1, ?_, ?_, ?_, ?_, ?_, ?_⟩ <;> (funext j; rw [zu_ne1 (by decide)])
  · exact congrFun h.a290 j
  · exact congrFun h.a291 j
  · exact congrFun h.a292 j
  · exact congrFun h.a293 j
  · exact congrFun h.a294 j
  · exact congrFun h.a300 j
end CEs
abbrev inN (t : Int32) (n : Nat) : Prop := 0 ≤ t.toInt ∧ t.toInt < n
/-- an index within n, as the machine's longs have it -/
theorem in_iff (t : Int32) (n : Nat) (hn : n ≤ 1000000) : ((0 : Int64) ≤ t.toInt64 ∧ t.toInt64 ≤ (nI n - 1).toInt64) ↔ inN t n := by
  unfold inN
  rw [Int64.le_iff_toInt_le, Int64.le_iff_toInt_le, Int32.toInt_toInt64, Int32.toInt_toInt64]
  have e : (nI n - 1).toInt = (n : Int) - 1 := by
    have := pk_sub_toInt (a := n) (b := 1) (by omega) (by decide)
    exact this
  rw [e]
  have e0 : (0 : Int64).toInt = 0 := rfl
  rw [e0]
  omega
theorem inN_of {t : Int32} {n : Nat} (h : inN t n) (hn : n ≤ 1000000) : ∃ j : Nat, j < n ∧ t = nI j := by
  have hv : vp_in t n := (vp_in_iff).mpr h
  obtain ⟨j, h1, h2⟩ := vp_in_of hv (by omega)
  exact ⟨j, h1, h2⟩
theorem bI_congr {p q : Prop} [Decidable p] [Decidable q] (h : p ↔ q) : bI p = bI q := by unfold bI; by_cases hp : p <;> simp [hp, h.mp, ← h]
def s_countOf (v : Int32) : Int32 := itr (fun k n => n + (v >>> (nI k &&& 31) &&& 1)) 0 16
def s_marks (C : Nat → Nat → Int32) (m : Nat) : Int32 := s_countOf (C 291 m) + s_countOf (C 292 m)
def s_canF (C : Nat → Nat → Int32) (k m : Nat) (acc : Int32) : Int32 := acc ||| (if (C 291 m ||| C 292 m) &&& (C 294 (5 * k + 1) ^^^ (-1)) = 0 then 1 <<< (nI m &&& 31) else 0)
def s_can (C : Nat → Nat → Int32) (k : Nat) : Int32 := itr (s_canF C k) 0 (cM C)
/-- the things that a sound's target is -/
def s_tgt (C : Nat → Nat → Int32) (s : Nat) : Int32 := C 300 (C 293 s).toNatClampNeg
def s_plF (C : Nat → Nat → Int32) (x : Int32) (m : Nat) (best : Int32) : Int32 := if x >>> (nI m &&& 31) &&& 1 = 1 ∧ (best = -4 ∨ s_marks C m < s_marks C best.toNatClampNeg) then nI m else best
def s_pl (C : Nat → Nat → Int32) (x : Int32) : Int32 := itr (s_plF C x) (-4) (cM C)
theorem pl_tk (C : Nat → Nat → Int32) (x : Int32) : ∀ n : Nat, itr (s_plF C x) (-4) n = -4 ∨ ∃ j : Nat, j < n ∧ itr (s_plF C x) (-4) n = nI j
  | 0 => Or.inl rfl
  | n + 1 => by
    show s_plF C x n _ = -4 ∨ ∃ j : Nat, j < n + 1 ∧ s_plF C x n _ = nI j
    unfold s_plF
    split
    · exact Or.inr ⟨n, by omega, rfl⟩
    · rcases pl_tk C x n with h | ⟨j, h1, h2⟩
      · exact Or.inl h
      · exact Or.inr ⟨j, by omega, h2⟩
theorem pl_tk12 {C : Nat → Nat → Int32} (hC : CI C) {x : Int32} {n : Nat} (hn : n ≤ cM C) : tk (itr (s_plF C x) (-4) n) := by
  have := hC.m12
  rcases pl_tk C x n with h | ⟨j, h1, h2⟩
  · exact Or.inl h
  · exact Or.inr ⟨j, by omega, h2⟩
theorem nI_m4 {n : Nat} (hn : n < 1000000) : ¬ nI n = -4 := by
  intro e
  have h1 := nI_toInt (n := n) (by omega)
  rw [e] at h1
  have h2 : (-4 : Int32).toInt = -4 := rfl
  omega
/-- where something is, the plainest is something -/
theorem pl_is {C : Nat → Nat → Int32} {x : Int32} {m : Nat} (hb : ¬ x >>> (nI m &&& 31) &&& 1 = 0) : ∀ n : Nat, m < n → n ≤ 1000 → ¬ itr (s_plF C x) (-4) n = -4 := by
  have hb1 : x >>> (nI m &&& 31) &&& 1 = 1 := by
    have h1 := pk_and (x >>> (nI m &&& 31)) (m := 1) 1 rfl
    rw [h1] at hb ⊢
    rcases Nat.mod_two_eq_zero_or_one ((x >>> (nI m &&& 31)).toBitVec.toNat) with e | e
    · exact absurd (by rw [show 2 ^ 1 = 2 from rfl, e]; rfl) hb
    · rw [show 2 ^ 1 = 2 from rfl, e]; rfl
  intro n
  induction n with
  | zero => intro h; omega
  | succ n ih =>
    intro hmn hn
    show ¬ s_plF C x n _ = -4
    unfold s_plF
    by_cases hm : m = n
    · subst hm
      by_cases hbest : itr (s_plF C x) (-4) m = -4
      · rw [if_pos ⟨hb1, Or.inl hbest⟩]
        exact nI_m4 (by omega)
      · split
        · exact nI_m4 (by omega)
        · exact hbest
    · split
      · exact nI_m4 (by omega)
      · exact ih (by omega) (by omega)
def s_oneF (C : Nat → Nat → Int32) (x : Int32) (m : Nat) (is : Int32) : Int32 := bI (¬ is = 0 ∧ (x >>> (nI m &&& 31) &&& 1 = 0 ∨ C 300 m = C 300 (s_pl C x).toNatClampNeg))
def s_one (C : Nat → Nat → Int32) (x : Int32) : Int32 := itr (s_oneF C x) 1 (cM C)
def s_fitsIn (C : Nat → Nat → Int32) (f : Nat → Int32) (b s m : Nat) : Prop := f (b + 60 + s) &&& (C 300 m ^^^ (-1)) = 0 ∧ f (b + 64 + s) &&& C 300 m = 0
def s_allF (C : Nat → Nat → Int32) (f : Nat → Int32) (b s m : Nat) (acc : Int32) : Int32 := acc ||| (if f (b + 60 + s) &&& (C 300 m ^^^ (-1)) = 0 ∧ f (b + 64 + s) &&& C 300 m = 0 then 1 <<< (nI m &&& 31) else 0)
def s_all (C : Nat → Nat → Int32) (f : Nat → Int32) (b s : Nat) : Int32 := itr (s_allF C f b s) 0 (cM C)
section M1
variable {g : ZG} {h : ZH} {S C : Nat → Nat → Int32}
theorem tm_in (a b c : Int64) : Zd g mX5_in 1 0 0 [.long a, .long b, .long c] (zW h S) (some (.int (bI (b ≤ a ∧ a ≤ c)))) (zW h S) := by
  refine zc_of [some (.long a), none, some (.long b), none, some (.long c), none] rfl (Nat.le_of_ble_eq_true rfl) rfl ?_
  refine zt_lload_n (pc := 0) dX5_in_0 rfl rfl ?_
  refine zt_lload_n (pc := 1) dX5_in_1 rfl rfl ?_
  refine zt_lcmp (pc := 2) dX5_in_2 ?_
  refine zt_if_lt (pc := 3) 17 dX5_in_3 (by decide) (fun c_3 => ?_) (fun c_3 => ?_)
  · refine zt_iconst (pc := 17) dX5_in_17 (v := 0) rfl ?_
    exact zt_zreturn (pc := 18) dX5_in_18 rfl (Or.inl rfl) (⟨congrArg some (congrArg Value.int (bI_f (by first | exact fun q => absurd ((lg_cmp_lt _ _).mp c_3) (Int64.not_lt.mpr q.1) | exact fun q => absurd ((lg_cmp_gt _ _).mp c_10) (Int64.not_lt.mpr q.2))).symm), rfl⟩)
  · refine zt_lload_n (pc := 6) dX5_in_6 rfl rfl ?_
    refine zt_lload (pc := 7) dX5_in_7 rfl ?_
    refine zt_lcmp (pc := 9) dX5_in_9 ?_
    refine zt_if_gt (pc := 10) 17 dX5_in_10 (by decide) (fun c_10 => ?_) (fun c_10 => ?_)
    · refine zt_iconst (pc := 17) dX5_in_17 (v := 0) rfl ?_
      exact zt_zreturn (pc := 18) dX5_in_18 rfl (Or.inl rfl) (⟨congrArg some (congrArg Value.int (bI_f (by first | exact fun q => absurd ((lg_cmp_lt _ _).mp c_3) (Int64.not_lt.mpr q.1) | exact fun q => absurd ((lg_cmp_gt _ _).mp c_10) (Int64.not_lt.mpr q.2))).symm), rfl⟩)
    · refine zt_iconst (pc := 13) dX5_in_13 (v := 1) rfl ?_
      refine zt_goto (pc := 14) 18 dX5_in_14 (by decide) ?_
      exact zt_zreturn (pc := 18) dX5_in_18 rfl (Or.inr rfl) (⟨congrArg some (congrArg Value.int (bI_t ⟨Int64.not_lt.mp (fun q => c_3 ((lg_cmp_lt _ _).mpr q)), Int64.not_lt.mp (fun q => c_10 ((lg_cmp_gt _ _).mpr q))⟩).symm), rfl⟩)

theorem tm_flag (x : Int32) (hx : x = 0 ∨ x = 1) : Zd g mX5_flag 1 0 0 [.int x] (zW h S) (some (.int x)) (zW h S) := by
  refine zc_of [some (.int x)] rfl (Nat.le_of_ble_eq_true rfl) rfl ?_
  refine zt_iload_n (pc := 0) dX5_flag_0 rfl rfl ?_
  refine zt_if_eq (pc := 1) 8 dX5_flag_1 (by decide) (fun c_1 => ?_) (fun c_1 => ?_)
  · refine zt_iconst (pc := 8) dX5_flag_8 (v := 0) rfl ?_
    exact zt_ireturn (pc := 9) dX5_flag_9 rfl (⟨congrArg some (congrArg Value.int (by rcases hx with e | e <;> simp_all)), rfl⟩)
  · refine zt_iconst (pc := 4) dX5_flag_4 (v := 1) rfl ?_
    refine zt_goto (pc := 5) 9 dX5_flag_5 (by decide) ?_
    exact zt_ireturn (pc := 9) dX5_flag_9 rfl (⟨congrArg some (congrArg Value.int (by rcases hx with e | e <;> simp_all)), rfl⟩)

theorem tm_countOf (x : Int32) : Zd g mX5_countOf 1 0 0 [.int x] (zW h S) (some (.int (s_countOf x))) (zW h S) := by
  refine zc_of [some (.int x), none, none] rfl (Nat.le_of_ble_eq_true rfl) rfl ?_
  refine zt_iconst (pc := 0) dX5_countOf_0 (v := 0) rfl ?_
  refine zt_istore_n (pc := 1) (L' := [some (.int x), some (.int 0), none]) dX5_countOf_1 rfl (by decide) rfl rfl ?_
  refine zt_iconst (pc := 2) dX5_countOf_2 (v := 0) rfl ?_
  refine zt_istore_n (pc := 3) (L' := [some (.int x), some (.int 0), some (.int 0)]) dX5_countOf_3 rfl (by decide) rfl rfl ?_
  refine zt_for (pc := 4) (fun i => S) (fun i => [some (.int x), some (.int (itr (fun k n => n + (x >>> (nI k &&& 31) &&& 1)) 0 i)), some (.int (nI i))]) 16 rfl rfl ?_ (fun i hi_i ih_i => ?_)
  · show Zt _ _ _ _ _ _ (zW h S) 4 [some (.int x), some (.int (itr (fun k n => n + (x >>> (nI k &&& 31) &&& 1)) 0 16)), some (.int (nI 16))] []
    refine zt_iload_n (pc := 4) dX5_countOf_4 rfl rfl ?_
    refine zt_bipush (pc := 5) dX5_countOf_5 (v := 16) rfl ?_
    refine zt_geN (a := 16) (b := 16) (pc := 7) 24 dX5_countOf_7 (by decide) (by omega) (by omega) (fun c_7 => ?_) (fun c_7 => absurd c_7 (Nat.lt_irrefl _))
    refine zt_iload_n (pc := 24) dX5_countOf_24 rfl rfl ?_
    exact zt_ireturn (pc := 25) dX5_countOf_25 rfl (⟨rfl, rfl⟩)
  · show Zt _ _ _ _ _ _ (zW h S) 4 [some (.int x), some (.int (itr (fun k n => n + (x >>> (nI k &&& 31) &&& 1)) 0 i)), some (.int (nI i))] []
    refine zt_iload_n (pc := 4) dX5_countOf_4 rfl rfl ?_
    refine zt_bipush (pc := 5) dX5_countOf_5 (v := 16) rfl ?_
    refine zt_geN (a := i) (b := 16) (pc := 7) 24 dX5_countOf_7 (by decide) (by omega) (by omega) (fun c_7 => absurd hi_i (Nat.not_lt.mpr c_7)) (fun c_7 => ?_)
    refine zt_iload_n (pc := 10) dX5_countOf_10 rfl rfl ?_
    refine zt_iload_n (pc := 11) dX5_countOf_11 rfl rfl ?_
    refine zt_iload_n (pc := 12) dX5_countOf_12 rfl rfl ?_
    refine zt_ishr (pc := 13) dX5_countOf_13 ?_
    refine zt_iconst (pc := 14) dX5_countOf_14 (v := 1) rfl ?_
    refine zt_iand (pc := 15) dX5_countOf_15 ?_
    refine zt_iadd (pc := 16) dX5_countOf_16 ?_
    refine zt_istore_n (pc := 17) (L' := [some (.int x), some (.int ((itr (fun k n => n + (x >>> (nI k &&& 31) &&& 1)) 0 i) + ((x >>> ((nI i) &&& 31)) &&& 1))), some (.int (nI i))]) dX5_countOf_17 rfl (by decide) rfl rfl ?_
    refine zt_iincN (pc := 18) (b := i + 1) (L' := [some (.int x), some (.int ((itr (fun k n => n + (x >>> (nI k &&& 31) &&& 1)) 0 i) + ((x >>> ((nI i) &&& 31)) &&& 1))), some (.int (nI (i + 1)))]) dX5_countOf_18 rfl (zinc1 i) (by decide) rfl rfl ?_
    refine zt_goto (pc := 21) 4 dX5_countOf_21 (by decide) ?_
    exact ih_i

theorem tm_isThing (hM : MS h.2.1 h.2.2.2) (hC : CI C) (hE : CE S C) (t : Int32) : Zd g mX5_isThing 2 0 0 [.ref 289, .int t] (zW h S) (some (.int (bI (inN t (cT C))))) (zW h S) := by
  refine zc_of [some (.ref 289), some (.int t)] rfl (Nat.le_of_ble_eq_true rfl) rfl ?_
  refine zt_iload_n (pc := 0) dX5_isThing_0 rfl rfl ?_
  refine zt_i2l (pc := 1) dX5_isThing_1 rfl ?_
  refine zt_lconst (pc := 2) dX5_isThing_2 (v := 0) rfl ?_
  refine zt_aload_n (pc := 3) dX5_isThing_3 rfl rfl ?_
  refine wt_getI (pc := 4) 5 0 (v := nI (cT C)) dX5_isThing_4 q1272 rfl (ms_o hM) (hE.t hC) ?_
  refine zt_iconst (pc := 7) dX5_isThing_7 (v := 1) rfl ?_
  refine zt_isub (pc := 8) dX5_isThing_8 ?_
  refine zt_i2l (pc := 9) dX5_isThing_9 rfl ?_
  refine wt_callS (pc := 10) mX5_in 3 (rc' := 0) (rs' := 0) dX5_isThing_10 q1223 ms_X5_in (tm_in t.toInt64 0 (((nI (cT C)) - 1).toInt64)) rfl rfl rfl rfl rfl rfl ?_
  exact zt_zreturn (pc := 13) dX5_isThing_13 rfl bI_or (⟨congrArg some (congrArg Value.int (bI_congr (in_iff t (cT C) (by have := hC.t8; omega)))), rfl⟩)

theorem tm_isSound (hM : MS h.2.1 h.2.2.2) (hC : CI C) (hE : CE S C) (t : Int32) : Zd g mX5_isSound 2 0 0 [.ref 289, .int t] (zW h S) (some (.int (bI (inN t (cS C))))) (zW h S) := by
  refine zc_of [some (.ref 289), some (.int t)] rfl (Nat.le_of_ble_eq_true rfl) rfl ?_
  refine zt_iload_n (pc := 0) dX5_isSound_0 rfl rfl ?_
  refine zt_i2l (pc := 1) dX5_isSound_1 rfl ?_
  refine zt_lconst (pc := 2) dX5_isSound_2 (v := 0) rfl ?_
  refine zt_aload_n (pc := 3) dX5_isSound_3 rfl rfl ?_
  refine wt_getI (pc := 4) 5 5 (v := nI (cS C)) dX5_isSound_4 q1277 rfl (ms_o hM) (hE.s hC) ?_
  refine zt_iconst (pc := 7) dX5_isSound_7 (v := 1) rfl ?_
  refine zt_isub (pc := 8) dX5_isSound_8 ?_
  refine zt_i2l (pc := 9) dX5_isSound_9 rfl ?_
  refine wt_callS (pc := 10) mX5_in 3 (rc' := 0) (rs' := 0) dX5_isSound_10 q1223 ms_X5_in (tm_in t.toInt64 0 (((nI (cS C)) - 1).toInt64)) rfl rfl rfl rfl rfl rfl ?_
  exact zt_zreturn (pc := 13) dX5_isSound_13 rfl bI_or (⟨congrArg some (congrArg Value.int (bI_congr (in_iff t (cS C) (by have := hC.s4; omega)))), rfl⟩)

theorem tm_isKind (hM : MS h.2.1 h.2.2.2) (hC : CI C) (hE : CE S C) (t : Int32) : Zd g mX5_isKind 2 0 0 [.ref 289, .int t] (zW h S) (some (.int (bI (inN t (cK C))))) (zW h S) := by
  refine zc_of [some (.ref 289), some (.int t)] rfl (Nat.le_of_ble_eq_true rfl) rfl ?_
  refine zt_iload_n (pc := 0) dX5_isKind_0 rfl rfl ?_
  refine zt_i2l (pc := 1) dX5_isKind_1 rfl ?_
  refine zt_lconst (pc := 2) dX5_isKind_2 (v := 0) rfl ?_
  refine zt_aload_n (pc := 3) dX5_isKind_3 rfl rfl ?_
  refine wt_getI (pc := 4) 5 7 (v := nI (cK C)) dX5_isKind_4 q1279 rfl (ms_o hM) (hE.k hC) ?_
  refine zt_iconst (pc := 7) dX5_isKind_7 (v := 1) rfl ?_
  refine zt_isub (pc := 8) dX5_isKind_8 ?_
  refine zt_i2l (pc := 9) dX5_isKind_9 rfl ?_
  refine wt_callS (pc := 10) mX5_in 3 (rc' := 0) (rs' := 0) dX5_isKind_10 q1223 ms_X5_in (tm_in t.toInt64 0 (((nI (cK C)) - 1).toInt64)) rfl rfl rfl rfl rfl rfl ?_
  exact zt_zreturn (pc := 13) dX5_isKind_13 rfl bI_or (⟨congrArg some (congrArg Value.int (bI_congr (in_iff t (cK C) (by have := hC.k6; omega)))), rfl⟩)

theorem tm_marksOf (hM : MS h.2.1 h.2.2.2) (hE : CE S C) (m : Nat) (hm : m < 12) : Zd g mX5_marksOf 2 0 0 [.ref 289, .int (nI m)] (zW h S) (some (.int (s_marks C m))) (zW h S) := by
  refine zc_of [some (.ref 289), some (.int (nI m))] rfl (Nat.le_of_ble_eq_true rfl) rfl ?_
  refine zt_aload_n (pc := 0) dX5_marksOf_0 rfl rfl ?_
  refine wt_getR (pc := 1) 5 3 dX5_marksOf_1 q1275 rfl (ms_o hM) (mr_having hM) ?_
  refine zt_iload_n (pc := 4) dX5_marksOf_4 rfl rfl ?_
  refine wt_iald (pc := 5) 12 m (v := C 291 m) dX5_marksOf_5 (ma_having hM) rfl rfl (by omega) (congrFun hE.a291 m) ?_
  refine wt_callS (pc := 6) mX5_countOf 1 (rc' := 0) (rs' := 0) dX5_marksOf_6 q1265 ms_X5_countOf (tm_countOf (C 291 m)) rfl rfl rfl rfl rfl rfl ?_
  refine zt_aload_n (pc := 9) dX5_marksOf_9 rfl rfl ?_
  refine wt_getR (pc := 10) 5 4 dX5_marksOf_10 q1276 rfl (ms_o hM) (mr_lacking hM) ?_
  refine zt_iload_n (pc := 13) dX5_marksOf_13 rfl rfl ?_
  refine wt_iald (pc := 14) 12 m (v := C 292 m) dX5_marksOf_14 (ma_lacking hM) rfl rfl (by omega) (congrFun hE.a292 m) ?_
  refine wt_callS (pc := 15) mX5_countOf 1 (rc' := 0) (rs' := 0) dX5_marksOf_15 q1265 ms_X5_countOf (tm_countOf (C 292 m)) rfl rfl rfl rfl rfl rfl ?_
  refine zt_iadd (pc := 18) dX5_marksOf_18 ?_
  exact zt_ireturn (pc := 19) dX5_marksOf_19 rfl (⟨rfl, rfl⟩)


theorem tm_canThink (hM : MS h.2.1 h.2.2.2) (hC : CI C) (hE : CE S C) (k : Nat) (hk : k < 6) : Zd g mX5_canThink 1 0 0 [.ref 289, .int (nI k)] (zW h S) (some (.int (s_can C k))) (zW h S) := by
  refine zc_of [some (.ref 289), some (.int (nI k)), none, none] rfl (Nat.le_of_ble_eq_true rfl) rfl ?_
  have hm12 := hC.m12
  refine zt_iconst (pc := 0) dX5_canThink_0 (v := 0) rfl ?_
  refine zt_istore_n (pc := 1) (L' := [some (.ref 289), some (.int (nI k)), some (.int 0), none]) dX5_canThink_1 rfl (by decide) rfl rfl ?_
  refine zt_iconst (pc := 2) dX5_canThink_2 (v := 0) rfl ?_
  refine zt_istore_n (pc := 3) (L' := [some (.ref 289), some (.int (nI k)), some (.int 0), some (.int 0)]) dX5_canThink_3 rfl (by decide) rfl rfl ?_
  refine zt_for (pc := 4) (fun i => S) (fun i => [some (.ref 289), some (.int (nI k)), some (.int (itr (s_canF C k) 0 i)), some (.int (nI i))]) (cM C) rfl rfl ?_ (fun i hi_i ih_i => ?_)
  · show Zt _ _ _ _ _ _ (zW h S) 4 [some (.ref 289), some (.int (nI k)), some (.int (itr (s_canF C k) 0 (cM C))), some (.int (nI (cM C)))] []
    refine zt_iload_n (pc := 4) dX5_canThink_4 rfl rfl ?_
    refine zt_aload_n (pc := 5) dX5_canThink_5 rfl rfl ?_
    refine wt_getI (pc := 6) 5 2 (v := nI (cM C)) dX5_canThink_6 q1274 rfl (ms_o hM) (hE.m hC) ?_
    refine zt_geN (a := cM C) (b := cM C) (pc := 9) 57 dX5_canThink_9 (by decide) (by omega) (by omega) (fun c_9 => ?_) (fun c_9 => absurd c_9 (Nat.lt_irrefl _))
    refine zt_iload_n (pc := 57) dX5_canThink_57 rfl rfl ?_
    exact zt_ireturn (pc := 58) dX5_canThink_58 rfl (⟨rfl, rfl⟩)
  · show Zt _ _ _ _ _ _ (zW h S) 4 [some (.ref 289), some (.int (nI k)), some (.int (itr (s_canF C k) 0 i)), some (.int (nI i))] []
    refine zt_iload_n (pc := 4) dX5_canThink_4 rfl rfl ?_
    refine zt_aload_n (pc := 5) dX5_canThink_5 rfl rfl ?_
    refine wt_getI (pc := 6) 5 2 (v := nI (cM C)) dX5_canThink_6 q1274 rfl (ms_o hM) (hE.m hC) ?_
    refine zt_geN (a := i) (b := cM C) (pc := 9) 57 dX5_canThink_9 (by decide) (by omega) (by omega) (fun c_9 => absurd hi_i (Nat.not_lt.mpr c_9)) (fun c_9 => ?_)
    refine zt_iload_n (pc := 12) dX5_canThink_12 rfl rfl ?_
    refine zt_aload_n (pc := 13) dX5_canThink_13 rfl rfl ?_
    refine wt_getR (pc := 14) 5 3 dX5_canThink_14 q1275 rfl (ms_o hM) (mr_having hM) ?_
    refine zt_iload_n (pc := 17) dX5_canThink_17 rfl rfl ?_
    refine wt_iald (pc := 18) 12 i (v := C 291 i) dX5_canThink_18 (ma_having hM) rfl rfl (by omega) (congrFun hE.a291 i) ?_
    refine zt_aload_n (pc := 19) dX5_canThink_19 rfl rfl ?_
    refine wt_getR (pc := 20) 5 4 dX5_canThink_20 q1276 rfl (ms_o hM) (mr_lacking hM) ?_
    refine zt_iload_n (pc := 23) dX5_canThink_23 rfl rfl ?_
    refine wt_iald (pc := 24) 12 i (v := C 292 i) dX5_canThink_24 (ma_lacking hM) rfl rfl (by omega) (congrFun hE.a292 i) ?_
    refine zt_ior (pc := 25) dX5_canThink_25 ?_
    refine zt_aload_n (pc := 26) dX5_canThink_26 rfl rfl ?_
    refine wt_getR (pc := 27) 5 8 dX5_canThink_27 q1280 rfl (ms_o hM) (mr_kind hM) ?_
    refine zt_iconst (pc := 30) dX5_canThink_30 (v := 5) rfl ?_
    refine zt_iload_n (pc := 31) dX5_canThink_31 rfl rfl ?_
    refine zt_imulN (pc := 32) (a := 5) (b := k) dX5_canThink_32 ?_
    refine zt_iconst (pc := 33) dX5_canThink_33 (v := 1) rfl ?_
    refine zt_iaddN (pc := 34) (a := 5 * k) (b := 1) dX5_canThink_34 ?_
    refine wt_iald (pc := 35) 30 ((5 * k) + 1) (v := C 294 ((5 * k) + 1)) dX5_canThink_35 (ma_kind hM) rfl rfl (by omega) (congrFun hE.a294 ((5 * k) + 1)) ?_
    refine zt_iconst (pc := 36) dX5_canThink_36 (v := (-1)) rfl ?_
    refine zt_ixor (pc := 37) dX5_canThink_37 ?_
    refine zt_iand (pc := 38) dX5_canThink_38 ?_
    refine zt_if_ne (pc := 39) 48 dX5_canThink_39 (by decide) (fun c_39 => ?_) (fun c_39 => ?_)
    · refine zt_iconst (pc := 48) dX5_canThink_48 (v := 0) rfl ?_
      refine zt_ior (pc := 49) dX5_canThink_49 ?_
      refine zt_top (pc := 50) (itr (s_canF C k) 0 (i + 1)) (by show _ = s_canF C k i _; unfold s_canF; first | rw [if_pos c_39] | rw [if_neg c_39]) ?_
      refine zt_istore_n (pc := 50) (L' := [some (.ref 289), some (.int (nI k)), some (.int (itr (s_canF C k) 0 (i + 1))), some (.int (nI i))]) dX5_canThink_50 rfl (by decide) rfl rfl ?_
      refine zt_iincN (pc := 51) (b := i + 1) (L' := [some (.ref 289), some (.int (nI k)), some (.int (itr (s_canF C k) 0 (i + 1))), some (.int (nI (i + 1)))]) dX5_canThink_51 rfl (zinc1 i) (by decide) rfl rfl ?_
      refine zt_goto (pc := 54) 4 dX5_canThink_54 (by decide) ?_
      exact ih_i
    · refine zt_iconst (pc := 42) dX5_canThink_42 (v := 1) rfl ?_
      refine zt_iload_n (pc := 43) dX5_canThink_43 rfl rfl ?_
      refine zt_ishl (pc := 44) dX5_canThink_44 ?_
      refine zt_goto (pc := 45) 49 dX5_canThink_45 (by decide) ?_
      refine zt_ior (pc := 49) dX5_canThink_49 ?_
      refine zt_top (pc := 50) (itr (s_canF C k) 0 (i + 1)) (by show _ = s_canF C k i _; unfold s_canF; first | rw [if_pos c_39] | rw [if_neg c_39]) ?_
      refine zt_istore_n (pc := 50) (L' := [some (.ref 289), some (.int (nI k)), some (.int (itr (s_canF C k) 0 (i + 1))), some (.int (nI i))]) dX5_canThink_50 rfl (by decide) rfl rfl ?_
      refine zt_iincN (pc := 51) (b := i + 1) (L' := [some (.ref 289), some (.int (nI k)), some (.int (itr (s_canF C k) 0 (i + 1))), some (.int (nI (i + 1)))]) dX5_canThink_51 rfl (zinc1 i) (by decide) rfl rfl ?_
      refine zt_goto (pc := 54) 4 dX5_canThink_54 (by decide) ?_
      exact ih_i

theorem tm_targetOf (hM : MS h.2.1 h.2.2.2) (hC : CI C) (hE : CE S C) (s : Nat) (hs : s < 4) : Zd g mX5_targetOf 1 0 0 [.ref 289, .int (nI s)] (zW h S) (some (.int (s_tgt C s))) (zW h S) := by
  refine zc_of [some (.ref 289), some (.int (nI s))] rfl (Nat.le_of_ble_eq_true rfl) rfl ?_
  obtain ⟨j, hj, hje⟩ := hC.tg s hs
  refine zt_aload_n (pc := 0) dX5_targetOf_0 rfl rfl ?_
  refine wt_getR (pc := 1) 5 18 dX5_targetOf_1 q1290 rfl (ms_o hM) (mr_are hM) ?_
  refine zt_aload_n (pc := 4) dX5_targetOf_4 rfl rfl ?_
  refine wt_getR (pc := 5) 5 6 dX5_targetOf_5 q1278 rfl (ms_o hM) (mr_target hM) ?_
  refine zt_iload_n (pc := 8) dX5_targetOf_8 rfl rfl ?_
  refine wt_iald (pc := 9) 4 s (v := C 293 s) dX5_targetOf_9 (ma_target hM) rfl rfl (by omega) (congrFun hE.a293 s) ?_
  refine wt_iald (pc := 10) 12 ((C 293 s).toNatClampNeg) (v := C 300 ((C 293 s).toNatClampNeg)) dX5_targetOf_10 (ma_are hM) rfl (by rw [hje, nI_clamp (by omega)]) (by rw [hje, nI_clamp (by omega)]; exact hj) (congrFun hE.a300 ((C 293 s).toNatClampNeg)) ?_
  exact zt_ireturn (pc := 11) dX5_targetOf_11 rfl (⟨rfl, rfl⟩)

theorem tm_plainest (hM : MS h.2.1 h.2.2.2) (hC : CI C) (hE : CE S C) (x : Int32) : Zd g mX5_plainest 3 0 0 [.ref 289, .int x] (zW h S) (some (.int (s_pl C x))) (zW h S) := by
  refine zc_of [some (.ref 289), some (.int x), none, none] rfl (Nat.le_of_ble_eq_true rfl) rfl ?_
  have hm12 := hC.m12
  refine zt_bipush (pc := 0) dX5_plainest_0 (v := (-4)) rfl ?_
  refine zt_istore_n (pc := 2) (L' := [some (.ref 289), some (.int x), some (.int (-4)), none]) dX5_plainest_2 rfl (by decide) rfl rfl ?_
  refine zt_iconst (pc := 3) dX5_plainest_3 (v := 0) rfl ?_
  refine zt_istore_n (pc := 4) (L' := [some (.ref 289), some (.int x), some (.int (-4)), some (.int 0)]) dX5_plainest_4 rfl (by decide) rfl rfl ?_
  refine zt_for (pc := 5) (fun i => S) (fun i => [some (.ref 289), some (.int x), some (.int (itr (s_plF C x) (-4) i)), some (.int (nI i))]) (cM C) rfl rfl ?_ (fun i hi_i ih_i => ?_)
  · show Zt _ _ _ _ _ _ (zW h S) 5 [some (.ref 289), some (.int x), some (.int (itr (s_plF C x) (-4) (cM C))), some (.int (nI (cM C)))] []
    refine zt_iload_n (pc := 5) dX5_plainest_5 rfl rfl ?_
    refine zt_aload_n (pc := 6) dX5_plainest_6 rfl rfl ?_
    refine wt_getI (pc := 7) 5 2 (v := nI (cM C)) dX5_plainest_7 q1274 rfl (ms_o hM) (hE.m hC) ?_
    refine zt_geN (a := cM C) (b := cM C) (pc := 10) 53 dX5_plainest_10 (by decide) (by omega) (by omega) (fun c_10 => ?_) (fun c_10 => absurd c_10 (Nat.lt_irrefl _))
    refine zt_iload_n (pc := 53) dX5_plainest_53 rfl rfl ?_
    exact zt_ireturn (pc := 54) dX5_plainest_54 rfl (⟨rfl, rfl⟩)
  · show Zt _ _ _ _ _ _ (zW h S) 5 [some (.ref 289), some (.int x), some (.int (itr (s_plF C x) (-4) i)), some (.int (nI i))] []
    refine zt_iload_n (pc := 5) dX5_plainest_5 rfl rfl ?_
    refine zt_aload_n (pc := 6) dX5_plainest_6 rfl rfl ?_
    refine wt_getI (pc := 7) 5 2 (v := nI (cM C)) dX5_plainest_7 q1274 rfl (ms_o hM) (hE.m hC) ?_
    refine zt_geN (a := i) (b := cM C) (pc := 10) 53 dX5_plainest_10 (by decide) (by omega) (by omega) (fun c_10 => absurd hi_i (Nat.not_lt.mpr c_10)) (fun c_10 => ?_)
    refine zt_iload_n (pc := 13) dX5_plainest_13 rfl rfl ?_
    refine zt_iload_n (pc := 14) dX5_plainest_14 rfl rfl ?_
    refine zt_ishr (pc := 15) dX5_plainest_15 ?_
    refine zt_iconst (pc := 16) dX5_plainest_16 (v := 1) rfl ?_
    refine zt_iand (pc := 17) dX5_plainest_17 ?_
    refine zt_iconst (pc := 18) dX5_plainest_18 (v := 1) rfl ?_
    refine zt_icmp_ne (pc := 19) 45 dX5_plainest_19 (by decide) (fun c_19 => ?_) (fun c_19 => ?_)
    · refine zt_iload_n (pc := 45) dX5_plainest_45 rfl rfl ?_
      refine zt_top (pc := 46) (itr (s_plF C x) (-4) (i + 1)) (show _ = s_plF C x i _ from (if_neg (fun q => c_19 q.1)).symm) ?_
      refine zt_istore_n (pc := 46) (L' := [some (.ref 289), some (.int x), some (.int (itr (s_plF C x) (-4) (i + 1))), some (.int (nI i))]) dX5_plainest_46 rfl (by decide) rfl rfl ?_
      refine zt_iincN (pc := 47) (b := i + 1) (L' := [some (.ref 289), some (.int x), some (.int (itr (s_plF C x) (-4) (i + 1))), some (.int (nI (i + 1)))]) dX5_plainest_47 rfl (zinc1 i) (by decide) rfl rfl ?_
      refine zt_goto (pc := 50) 5 dX5_plainest_50 (by decide) ?_
      exact ih_i
    · refine zt_iload_n (pc := 22) dX5_plainest_22 rfl rfl ?_
      refine zt_bipush (pc := 23) dX5_plainest_23 (v := (-4)) rfl ?_
      refine zt_icmp_eq (pc := 25) 41 dX5_plainest_25 (by decide) (fun c_25 => ?_) (fun c_25 => ?_)
      · refine zt_iload_n (pc := 41) dX5_plainest_41 rfl rfl ?_
        refine zt_goto (pc := 42) 46 dX5_plainest_42 (by decide) ?_
        refine zt_top (pc := 46) (itr (s_plF C x) (-4) (i + 1)) (show _ = s_plF C x i _ from (if_pos ⟨c_19, Or.inl c_25⟩).symm) ?_
        refine zt_istore_n (pc := 46) (L' := [some (.ref 289), some (.int x), some (.int (itr (s_plF C x) (-4) (i + 1))), some (.int (nI i))]) dX5_plainest_46 rfl (by decide) rfl rfl ?_
        refine zt_iincN (pc := 47) (b := i + 1) (L' := [some (.ref 289), some (.int x), some (.int (itr (s_plF C x) (-4) (i + 1))), some (.int (nI (i + 1)))]) dX5_plainest_47 rfl (zinc1 i) (by decide) rfl rfl ?_
        refine zt_goto (pc := 50) 5 dX5_plainest_50 (by decide) ?_
        exact ih_i
      · refine zt_aload_n (pc := 28) dX5_plainest_28 rfl rfl ?_
        refine zt_iload_n (pc := 29) dX5_plainest_29 rfl rfl ?_
        refine wt_callV (pc := 30) mX5_marksOf 1 5 (rc' := 0) (rs' := 0) dX5_plainest_30 q1261 mi_X5_marksOf rfl rfl (ms_o hM) (tm_marksOf hM hE i (by omega)) rfl rfl rfl rfl rfl rfl ?_
        refine zt_aload_n (pc := 33) dX5_plainest_33 rfl rfl ?_
        refine zt_iload_n (pc := 34) dX5_plainest_34 rfl rfl ?_
        refine wt_callV (pc := 35) mX5_marksOf 1 5 (rc' := 0) (rs' := 0) dX5_plainest_35 q1261 mi_X5_marksOf rfl rfl (ms_o hM) (by have e0 := tm_marksOf (g := g) (h := h) hM hE ((itr (s_plF C x) (-4) i).toNatClampNeg) ((pl_tk12 hC (by omega)).lt c_25); rw [← (pl_tk12 hC (by omega)).ix c_25] at e0; exact e0) rfl rfl rfl rfl rfl rfl ?_
        refine zt_icmp_ge (pc := 38) 45 dX5_plainest_38 (by decide) (fun c_38 => ?_) (fun c_38 => ?_)
        · refine zt_iload_n (pc := 45) dX5_plainest_45 rfl rfl ?_
          refine zt_top (pc := 46) (itr (s_plF C x) (-4) (i + 1)) (show _ = s_plF C x i _ from (if_neg (fun q => q.2.elim c_25 (fun z => absurd c_38 (Int32.not_le.mpr z)))).symm) ?_
          refine zt_istore_n (pc := 46) (L' := [some (.ref 289), some (.int x), some (.int (itr (s_plF C x) (-4) (i + 1))), some (.int (nI i))]) dX5_plainest_46 rfl (by decide) rfl rfl ?_
          refine zt_iincN (pc := 47) (b := i + 1) (L' := [some (.ref 289), some (.int x), some (.int (itr (s_plF C x) (-4) (i + 1))), some (.int (nI (i + 1)))]) dX5_plainest_47 rfl (zinc1 i) (by decide) rfl rfl ?_
          refine zt_goto (pc := 50) 5 dX5_plainest_50 (by decide) ?_
          exact ih_i
        · refine zt_iload_n (pc := 41) dX5_plainest_41 rfl rfl ?_
          refine zt_goto (pc := 42) 46 dX5_plainest_42 (by decide) ?_
          refine zt_top (pc := 46) (itr (s_plF C x) (-4) (i + 1)) (show _ = s_plF C x i _ from (if_pos ⟨c_19, Or.inr (Int32.not_le.mp c_38)⟩).symm) ?_
          refine zt_istore_n (pc := 46) (L' := [some (.ref 289), some (.int x), some (.int (itr (s_plF C x) (-4) (i + 1))), some (.int (nI i))]) dX5_plainest_46 rfl (by decide) rfl rfl ?_
          refine zt_iincN (pc := 47) (b := i + 1) (L' := [some (.ref 289), some (.int x), some (.int (itr (s_plF C x) (-4) (i + 1))), some (.int (nI (i + 1)))]) dX5_plainest_47 rfl (zinc1 i) (by decide) rfl rfl ?_
          refine zt_goto (pc := 50) 5 dX5_plainest_50 (by decide) ?_
          exact ih_i

theorem one_or {C : Nat → Nat → Int32} {x : Int32} : ∀ n : Nat, itr (s_oneF C x) 1 n = 0 ∨ itr (s_oneF C x) 1 n = 1
  | 0 => Or.inr rfl
  | _ + 1 => bI_or
theorem tm_areAllOne (hM : MS h.2.1 h.2.2.2) (hC : CI C) (hE : CE S C) (x : Int32) : Zd g mX5_areAllOne 4 0 0 [.ref 289, .int x] (zW h S) (some (.int (s_one C x))) (zW h S) := by
  refine zc_of [some (.ref 289), some (.int x), none, none, none] rfl (Nat.le_of_ble_eq_true rfl) rfl ?_
  have hm12 := hC.m12
  refine zt_aload_n (pc := 0) dX5_areAllOne_0 rfl rfl ?_
  refine zt_iload_n (pc := 1) dX5_areAllOne_1 rfl rfl ?_
  refine wt_callV (pc := 2) mX5_plainest 1 5 (rc' := 0) (rs' := 0) dX5_areAllOne_2 q1257 mi_X5_plainest rfl rfl (ms_o hM) (tm_plainest hM hC hE x) rfl rfl rfl rfl rfl rfl ?_
  refine zt_istore_n (pc := 5) (L' := [some (.ref 289), some (.int x), some (.int (s_pl C x)), none, none]) dX5_areAllOne_5 rfl (by decide) rfl rfl ?_
  refine zt_iconst (pc := 6) dX5_areAllOne_6 (v := 1) rfl ?_
  refine zt_istore_n (pc := 7) (L' := [some (.ref 289), some (.int x), some (.int (s_pl C x)), some (.int 1), none]) dX5_areAllOne_7 rfl (by decide) rfl rfl ?_
  refine zt_iconst (pc := 8) dX5_areAllOne_8 (v := 0) rfl ?_
  refine zt_istore (pc := 9) (L' := [some (.ref 289), some (.int x), some (.int (s_pl C x)), some (.int 1), some (.int 0)]) dX5_areAllOne_9 (by decide) rfl rfl ?_
  refine zt_for (pc := 11) (fun i => S) (fun i => [some (.ref 289), some (.int x), some (.int (s_pl C x)), some (.int (itr (s_oneF C x) 1 i)), some (.int (nI i))]) (cM C) rfl rfl ?_ (fun i hi_i ih_i => ?_)
  · show Zt _ _ _ _ _ _ (zW h S) 11 [some (.ref 289), some (.int x), some (.int (s_pl C x)), some (.int (itr (s_oneF C x) 1 (cM C))), some (.int (nI (cM C)))] []
    refine zt_iload (pc := 11) dX5_areAllOne_11 rfl ?_
    refine zt_aload_n (pc := 13) dX5_areAllOne_13 rfl rfl ?_
    refine wt_getI (pc := 14) 5 2 (v := nI (cM C)) dX5_areAllOne_14 q1274 rfl (ms_o hM) (hE.m hC) ?_
    refine zt_geN (a := cM C) (b := cM C) (pc := 17) 61 dX5_areAllOne_17 (by decide) (by omega) (by omega) (fun c_17 => ?_) (fun c_17 => absurd c_17 (Nat.lt_irrefl _))
    refine zt_iload_n (pc := 61) dX5_areAllOne_61 rfl rfl ?_
    exact zt_zreturn (pc := 62) dX5_areAllOne_62 rfl (one_or _) (⟨rfl, rfl⟩)
  · show Zt _ _ _ _ _ _ (zW h S) 11 [some (.ref 289), some (.int x), some (.int (s_pl C x)), some (.int (itr (s_oneF C x) 1 i)), some (.int (nI i))] []
    refine zt_iload (pc := 11) dX5_areAllOne_11 rfl ?_
    refine zt_aload_n (pc := 13) dX5_areAllOne_13 rfl rfl ?_
    refine wt_getI (pc := 14) 5 2 (v := nI (cM C)) dX5_areAllOne_14 q1274 rfl (ms_o hM) (hE.m hC) ?_
    refine zt_geN (a := i) (b := cM C) (pc := 17) 61 dX5_areAllOne_17 (by decide) (by omega) (by omega) (fun c_17 => absurd hi_i (Nat.not_lt.mpr c_17)) (fun c_17 => ?_)
    refine zt_iload_n (pc := 20) dX5_areAllOne_20 rfl rfl ?_
    refine zt_if_eq (pc := 21) 53 dX5_areAllOne_21 (by decide) (fun c_21 => ?_) (fun c_21 => ?_)
    · refine zt_iconst (pc := 53) dX5_areAllOne_53 (v := 0) rfl ?_
      refine zt_top (pc := 54) (itr (s_oneF C x) 1 (i + 1)) (show _ = s_oneF C x i _ from (bI_f (fun q => q.1 c_21)).symm) ?_
      refine zt_istore_n (pc := 54) (L' := [some (.ref 289), some (.int x), some (.int (s_pl C x)), some (.int (itr (s_oneF C x) 1 (i + 1))), some (.int (nI i))]) dX5_areAllOne_54 rfl (by decide) rfl rfl ?_
      refine zt_iincN (pc := 55) (b := i + 1) (L' := [some (.ref 289), some (.int x), some (.int (s_pl C x)), some (.int (itr (s_oneF C x) 1 (i + 1))), some (.int (nI (i + 1)))]) dX5_areAllOne_55 rfl (zinc1 i) (by decide) rfl rfl ?_
      refine zt_goto (pc := 58) 11 dX5_areAllOne_58 (by decide) ?_
      exact ih_i
    · refine zt_iload_n (pc := 24) dX5_areAllOne_24 rfl rfl ?_
      refine zt_iload (pc := 25) dX5_areAllOne_25 rfl ?_
      refine zt_ishr (pc := 27) dX5_areAllOne_27 ?_
      refine zt_iconst (pc := 28) dX5_areAllOne_28 (v := 1) rfl ?_
      refine zt_iand (pc := 29) dX5_areAllOne_29 ?_
      refine zt_if_eq (pc := 30) 49 dX5_areAllOne_30 (by decide) (fun c_30 => ?_) (fun c_30 => ?_)
      · refine zt_iconst (pc := 49) dX5_areAllOne_49 (v := 1) rfl ?_
        refine zt_goto (pc := 50) 54 dX5_areAllOne_50 (by decide) ?_
        refine zt_top (pc := 54) (itr (s_oneF C x) 1 (i + 1)) (show _ = s_oneF C x i _ from (bI_t ⟨c_21, Or.inl c_30⟩).symm) ?_
        refine zt_istore_n (pc := 54) (L' := [some (.ref 289), some (.int x), some (.int (s_pl C x)), some (.int (itr (s_oneF C x) 1 (i + 1))), some (.int (nI i))]) dX5_areAllOne_54 rfl (by decide) rfl rfl ?_
        refine zt_iincN (pc := 55) (b := i + 1) (L' := [some (.ref 289), some (.int x), some (.int (s_pl C x)), some (.int (itr (s_oneF C x) 1 (i + 1))), some (.int (nI (i + 1)))]) dX5_areAllOne_55 rfl (zinc1 i) (by decide) rfl rfl ?_
        refine zt_goto (pc := 58) 11 dX5_areAllOne_58 (by decide) ?_
        exact ih_i
      · refine zt_aload_n (pc := 33) dX5_areAllOne_33 rfl rfl ?_
        refine wt_getR (pc := 34) 5 18 dX5_areAllOne_34 q1290 rfl (ms_o hM) (mr_are hM) ?_
        refine zt_iload (pc := 37) dX5_areAllOne_37 rfl ?_
        refine wt_iald (pc := 39) 12 i (v := C 300 i) dX5_areAllOne_39 (ma_are hM) rfl rfl (by omega) (congrFun hE.a300 i) ?_
        refine zt_aload_n (pc := 40) dX5_areAllOne_40 rfl rfl ?_
        refine wt_getR (pc := 41) 5 18 dX5_areAllOne_41 q1290 rfl (ms_o hM) (mr_are hM) ?_
        refine zt_iload_n (pc := 44) dX5_areAllOne_44 rfl rfl ?_
        refine wt_iald (pc := 45) 12 ((s_pl C x).toNatClampNeg) (v := C 300 ((s_pl C x).toNatClampNeg)) dX5_areAllOne_45 (ma_are hM) rfl ((pl_tk12 hC (Nat.le_refl _)).ix (pl_is c_30 _ hi_i (by omega))) ((pl_tk12 hC (Nat.le_refl _)).lt (pl_is c_30 _ hi_i (by omega))) (congrFun hE.a300 ((s_pl C x).toNatClampNeg)) ?_
        refine zt_icmp_ne (pc := 46) 53 dX5_areAllOne_46 (by decide) (fun c_46 => ?_) (fun c_46 => ?_)
        · refine zt_iconst (pc := 53) dX5_areAllOne_53 (v := 0) rfl ?_
          refine zt_top (pc := 54) (itr (s_oneF C x) 1 (i + 1)) (show _ = s_oneF C x i _ from (bI_f (fun q => q.2.elim c_30 c_46)).symm) ?_
          refine zt_istore_n (pc := 54) (L' := [some (.ref 289), some (.int x), some (.int (s_pl C x)), some (.int (itr (s_oneF C x) 1 (i + 1))), some (.int (nI i))]) dX5_areAllOne_54 rfl (by decide) rfl rfl ?_
          refine zt_iincN (pc := 55) (b := i + 1) (L' := [some (.ref 289), some (.int x), some (.int (s_pl C x)), some (.int (itr (s_oneF C x) 1 (i + 1))), some (.int (nI (i + 1)))]) dX5_areAllOne_55 rfl (zinc1 i) (by decide) rfl rfl ?_
          refine zt_goto (pc := 58) 11 dX5_areAllOne_58 (by decide) ?_
          exact ih_i
        · refine zt_iconst (pc := 49) dX5_areAllOne_49 (v := 1) rfl ?_
          refine zt_goto (pc := 50) 54 dX5_areAllOne_50 (by decide) ?_
          refine zt_top (pc := 54) (itr (s_oneF C x) 1 (i + 1)) (show _ = s_oneF C x i _ from (bI_t ⟨c_21, Or.inr c_46⟩).symm) ?_
          refine zt_istore_n (pc := 54) (L' := [some (.ref 289), some (.int x), some (.int (s_pl C x)), some (.int (itr (s_oneF C x) 1 (i + 1))), some (.int (nI i))]) dX5_areAllOne_54 rfl (by decide) rfl rfl ?_
          refine zt_iincN (pc := 55) (b := i + 1) (L' := [some (.ref 289), some (.int x), some (.int (s_pl C x)), some (.int (itr (s_oneF C x) 1 (i + 1))), some (.int (nI (i + 1)))]) dX5_areAllOne_55 rfl (zinc1 i) (by decide) rfl rfl ?_
          refine zt_goto (pc := 58) 11 dX5_areAllOne_58 (by decide) ?_
          exact ih_i

theorem tm_fitsIn (hM : MS h.2.1 h.2.2.2) (hE : CE S C) {f : Nat → Int32} (b : Nat) (hb : b ≤ 140) (s m : Nat) (hs : s < 4) (hm : m < 12) : Zd g mX5_fitsIn 1 0 0 [.ref 289, .int (nI b), .int (nI s), .int (nI m)] (zW h (zs S 302 f)) (some (.int (bI (f (b + 60 + s) &&& (C 300 m ^^^ (-1)) = 0 ∧ f (b + 64 + s) &&& C 300 m = 0)))) (zW h (zs S 302 f)) := by
  refine zc_of [some (.ref 289), some (.int (nI b)), some (.int (nI s)), some (.int (nI m))] rfl (Nat.le_of_ble_eq_true rfl) rfl ?_
  refine zt_aload_n (pc := 0) dX5_fitsIn_0 rfl rfl ?_
  refine wt_getR (pc := 1) 5 27 dX5_fitsIn_1 q1299 rfl (ms_o hM) (mr_st hM) ?_
  refine zt_iload_n (pc := 4) dX5_fitsIn_4 rfl rfl ?_
  refine zt_bipush (pc := 5) dX5_fitsIn_5 (v := 60) rfl ?_
  refine zt_iaddN (pc := 7) (a := b) (b := 60) dX5_fitsIn_7 ?_
  refine zt_iload_n (pc := 8) dX5_fitsIn_8 rfl rfl ?_
  refine zt_iaddN (pc := 9) (a := b + 60) (b := s) dX5_fitsIn_9 ?_
  refine wt_iald (pc := 10) 210 ((b + 60) + s) (v := f ((b + 60) + s)) dX5_fitsIn_10 (ma_st hM) rfl rfl (by omega) rfl ?_
  refine zt_aload_n (pc := 11) dX5_fitsIn_11 rfl rfl ?_
  refine wt_getR (pc := 12) 5 18 dX5_fitsIn_12 q1290 rfl (ms_o hM) (mr_are hM) ?_
  refine zt_iload_n (pc := 15) dX5_fitsIn_15 rfl rfl ?_
  refine wt_iald (pc := 16) 12 m (v := C 300 m) dX5_fitsIn_16 (ma_are hM) rfl rfl (by omega) (congrFun hE.a300 m) ?_
  refine zt_iconst (pc := 17) dX5_fitsIn_17 (v := (-1)) rfl ?_
  refine zt_ixor (pc := 18) dX5_fitsIn_18 ?_
  refine zt_iand (pc := 19) dX5_fitsIn_19 ?_
  refine zt_if_ne (pc := 20) 48 dX5_fitsIn_20 (by decide) (fun c_20 => ?_) (fun c_20 => ?_)
  · refine zt_iconst (pc := 48) dX5_fitsIn_48 (v := 0) rfl ?_
    exact zt_zreturn (pc := 49) dX5_fitsIn_49 rfl (Or.inl rfl) (⟨congrArg some (congrArg Value.int (bI_f (fun q => c_20 q.1)).symm), rfl⟩)
  · refine zt_aload_n (pc := 23) dX5_fitsIn_23 rfl rfl ?_
    refine wt_getR (pc := 24) 5 27 dX5_fitsIn_24 q1299 rfl (ms_o hM) (mr_st hM) ?_
    refine zt_iload_n (pc := 27) dX5_fitsIn_27 rfl rfl ?_
    refine zt_bipush (pc := 28) dX5_fitsIn_28 (v := 64) rfl ?_
    refine zt_iaddN (pc := 30) (a := b) (b := 64) dX5_fitsIn_30 ?_
    refine zt_iload_n (pc := 31) dX5_fitsIn_31 rfl rfl ?_
    refine zt_iaddN (pc := 32) (a := b + 64) (b := s) dX5_fitsIn_32 ?_
    refine wt_iald (pc := 33) 210 ((b + 64) + s) (v := f ((b + 64) + s)) dX5_fitsIn_33 (ma_st hM) rfl rfl (by omega) rfl ?_
    refine zt_aload_n (pc := 34) dX5_fitsIn_34 rfl rfl ?_
    refine wt_getR (pc := 35) 5 18 dX5_fitsIn_35 q1290 rfl (ms_o hM) (mr_are hM) ?_
    refine zt_iload_n (pc := 38) dX5_fitsIn_38 rfl rfl ?_
    refine wt_iald (pc := 39) 12 m (v := C 300 m) dX5_fitsIn_39 (ma_are hM) rfl rfl (by omega) (congrFun hE.a300 m) ?_
    refine zt_iand (pc := 40) dX5_fitsIn_40 ?_
    refine zt_if_ne (pc := 41) 48 dX5_fitsIn_41 (by decide) (fun c_41 => ?_) (fun c_41 => ?_)
    · refine zt_iconst (pc := 48) dX5_fitsIn_48 (v := 0) rfl ?_
      exact zt_zreturn (pc := 49) dX5_fitsIn_49 rfl (Or.inl rfl) (⟨congrArg some (congrArg Value.int (bI_f (fun q => c_41 q.2)).symm), rfl⟩)
    · refine zt_iconst (pc := 44) dX5_fitsIn_44 (v := 1) rfl ?_
      refine zt_goto (pc := 45) 49 dX5_fitsIn_45 (by decide) ?_
      exact zt_zreturn (pc := 49) dX5_fitsIn_49 rfl (Or.inr rfl) (⟨congrArg some (congrArg Value.int (bI_t ⟨c_20, c_41⟩).symm), rfl⟩)

theorem tm_allThatFit (hM : MS h.2.1 h.2.2.2) (hC : CI C) (hE : CE S C) {f : Nat → Int32} (b : Nat) (hb : b ≤ 140) (s : Nat) (hs : s < 4) : Zd g mX5_allThatFit 2 0 0 [.ref 289, .int (nI b), .int (nI s)] (zW h (zs S 302 f)) (some (.int (s_all C f b s))) (zW h (zs S 302 f)) := by
  refine zc_of [some (.ref 289), some (.int (nI b)), some (.int (nI s)), none, none] rfl (Nat.le_of_ble_eq_true rfl) rfl ?_
  have hm12 := hC.m12
  refine zt_iconst (pc := 0) dX5_allThatFit_0 (v := 0) rfl ?_
  refine zt_istore_n (pc := 1) (L' := [some (.ref 289), some (.int (nI b)), some (.int (nI s)), some (.int 0), none]) dX5_allThatFit_1 rfl (by decide) rfl rfl ?_
  refine zt_iconst (pc := 2) dX5_allThatFit_2 (v := 0) rfl ?_
  refine zt_istore (pc := 3) (L' := [some (.ref 289), some (.int (nI b)), some (.int (nI s)), some (.int 0), some (.int 0)]) dX5_allThatFit_3 (by decide) rfl rfl ?_
  refine zt_for (pc := 5) (fun i => zs S 302 f) (fun i => [some (.ref 289), some (.int (nI b)), some (.int (nI s)), some (.int (itr (s_allF C f b s) 0 i)), some (.int (nI i))]) (cM C) rfl rfl ?_ (fun i hi_i ih_i => ?_)
  · show Zt _ _ _ _ _ _ (zW h (zs S 302 f)) 5 [some (.ref 289), some (.int (nI b)), some (.int (nI s)), some (.int (itr (s_allF C f b s) 0 (cM C))), some (.int (nI (cM C)))] []
    refine zt_iload (pc := 5) dX5_allThatFit_5 rfl ?_
    refine zt_aload_n (pc := 7) dX5_allThatFit_7 rfl rfl ?_
    refine wt_getI (pc := 8) 5 2 (v := nI (cM C)) dX5_allThatFit_8 q1274 rfl (ms_o hM) (hE.m hC) ?_
    refine zt_geN (a := cM C) (b := cM C) (pc := 11) 42 dX5_allThatFit_11 (by decide) (by omega) (by omega) (fun c_11 => ?_) (fun c_11 => absurd c_11 (Nat.lt_irrefl _))
    refine zt_iload_n (pc := 42) dX5_allThatFit_42 rfl rfl ?_
    exact zt_ireturn (pc := 43) dX5_allThatFit_43 rfl (⟨rfl, rfl⟩)
  · show Zt _ _ _ _ _ _ (zW h (zs S 302 f)) 5 [some (.ref 289), some (.int (nI b)), some (.int (nI s)), some (.int (itr (s_allF C f b s) 0 i)), some (.int (nI i))] []
    refine zt_iload (pc := 5) dX5_allThatFit_5 rfl ?_
    refine zt_aload_n (pc := 7) dX5_allThatFit_7 rfl rfl ?_
    refine wt_getI (pc := 8) 5 2 (v := nI (cM C)) dX5_allThatFit_8 q1274 rfl (ms_o hM) (hE.m hC) ?_
    refine zt_geN (a := i) (b := cM C) (pc := 11) 42 dX5_allThatFit_11 (by decide) (by omega) (by omega) (fun c_11 => absurd hi_i (Nat.not_lt.mpr c_11)) (fun c_11 => ?_)
    refine zt_iload_n (pc := 14) dX5_allThatFit_14 rfl rfl ?_
    refine zt_aload_n (pc := 15) dX5_allThatFit_15 rfl rfl ?_
    refine zt_iload_n (pc := 16) dX5_allThatFit_16 rfl rfl ?_
    refine zt_iload_n (pc := 17) dX5_allThatFit_17 rfl rfl ?_
    refine zt_iload (pc := 18) dX5_allThatFit_18 rfl ?_
    refine wt_callV (pc := 20) mX5_fitsIn 3 5 (rc' := 0) (rs' := 0) dX5_allThatFit_20 q1242 mi_X5_fitsIn rfl rfl (ms_o hM) (tm_fitsIn hM hE b hb s i (by omega) (by omega)) rfl rfl rfl rfl rfl rfl ?_
    refine zt_if_eq (pc := 23) 33 dX5_allThatFit_23 (by decide) (fun c_23 => ?_) (fun c_23 => ?_)
    · refine zt_iconst (pc := 33) dX5_allThatFit_33 (v := 0) rfl ?_
      refine zt_ior (pc := 34) dX5_allThatFit_34 ?_
      refine zt_top (pc := 35) (itr (s_allF C f b s) 0 (i + 1)) (show _ = s_allF C f b s i _ from congrArg _ (if_neg (bI_eq0.mp c_23)).symm) ?_
      refine zt_istore_n (pc := 35) (L' := [some (.ref 289), some (.int (nI b)), some (.int (nI s)), some (.int (itr (s_allF C f b s) 0 (i + 1))), some (.int (nI i))]) dX5_allThatFit_35 rfl (by decide) rfl rfl ?_
      refine zt_iincN (pc := 36) (b := i + 1) (L' := [some (.ref 289), some (.int (nI b)), some (.int (nI s)), some (.int (itr (s_allF C f b s) 0 (i + 1))), some (.int (nI (i + 1)))]) dX5_allThatFit_36 rfl (zinc1 i) (by decide) rfl rfl ?_
      refine zt_goto (pc := 39) 5 dX5_allThatFit_39 (by decide) ?_
      exact ih_i
    · refine zt_iconst (pc := 26) dX5_allThatFit_26 (v := 1) rfl ?_
      refine zt_iload (pc := 27) dX5_allThatFit_27 rfl ?_
      refine zt_ishl (pc := 29) dX5_allThatFit_29 ?_
      refine zt_goto (pc := 30) 34 dX5_allThatFit_30 (by decide) ?_
      refine zt_ior (pc := 34) dX5_allThatFit_34 ?_
      refine zt_top (pc := 35) (itr (s_allF C f b s) 0 (i + 1)) (show _ = s_allF C f b s i _ from congrArg _ (if_pos (by by_cases q : (f (b + 60 + s) &&& (C 300 i ^^^ (-1)) = 0 ∧ f (b + 64 + s) &&& C 300 i = 0); exact q; exact absurd (bI_f q) c_23)).symm) ?_
      refine zt_istore_n (pc := 35) (L' := [some (.ref 289), some (.int (nI b)), some (.int (nI s)), some (.int (itr (s_allF C f b s) 0 (i + 1))), some (.int (nI i))]) dX5_allThatFit_35 rfl (by decide) rfl rfl ?_
      refine zt_iincN (pc := 36) (b := i + 1) (L' := [some (.ref 289), some (.int (nI b)), some (.int (nI s)), some (.int (itr (s_allF C f b s) 0 (i + 1))), some (.int (nI (i + 1)))]) dX5_allThatFit_36 rfl (zinc1 i) (by decide) rfl rfl ?_
      refine zt_goto (pc := 39) 5 dX5_allThatFit_39 (by decide) ?_
      exact ih_i

end M1