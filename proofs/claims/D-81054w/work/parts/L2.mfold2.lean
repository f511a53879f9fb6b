/-! Judging, the model: the value of an E that is one of a constant. -/
theorem SIv_fj {σ s : Sg} {p : Nat → Nat → Bool} (h : SIv σ) (hF : FJ p σ s) (hp : ∀ c j, 2192 < c → c ≤ 2195 → p c j = false) : SIv s := sorry
theorem SIv_2 {σ : Sg} {c j : Nat} {v : Int32} (h : SIv σ) (hc : c = 2207 ∨ c = 2208) : SIv (sI σ c 0 j v) := sorry
theorem path_ar {P lo hi kk : Nat} (h1 : lo ≤ kk ∧ kk < hi) (hP : P + (hi - lo) ≤ 1703) : P + 1 + (kk - lo) ≤ 1703 ∧ P + 1 + (hi - (kk + 1)) ≤ 1703 ∧ P + (hi - (kk + 1)) ≤ 1703 := sorry
/-- back from the model's kinds of E -/
def mNi (a : Nat) : Nat := if a < 11 then a + 1 else if a = 18 then 12 else if a = 19 then 13 else if a = 15 then 14 else if a = 16 then 15 else if a = 17 then 16 else if a = 12 then 17 else if a = 13 then 18 else if a = 14 then 19 else 20
theorem mNi_k {k : Nat} (h : 1 ≤ k ∧ k ≤ 20) : mNi (mNk k) = k := sorry
theorem mNk_20 {k : Nat} (h : k ≤ 20) : mNk k < 100 := sorry
theorem kE_iff {k j : Nat} {a : Nat} (h : 1 ≤ k ∧ k ≤ 20) (hj : 1 ≤ j ∧ j ≤ 20) (ha : mNk j = a) : nI (mNk k) = nI a ↔ k = j := sorry
/-- the path below P stays -/
def PaS (u u' : Sg) (P : Nat) : Prop := ∀ q, q < P → u'.I 2207 0 q = u.I 2207 0 q
section SPX
variable {l : Launch} {G : Gl}
theorem mfold_D (hG : GOK G) {τ σ : Sg} {b k L n0 : Nat} {B0 : Nat → Nat} (hU : JgU τ σ k) (hb : b < 16) : ∀ (x : Tr) (lo hi d w0 a0 e0 : Nat) (v : Int32), MTr σ b (yTok B0 n0) x lo hi v → wt x 0 w0 a0 e0 → nmT (yTok B0 n0) L x → hi ≤ 1700 → ht x + 12 ≤ d → ∀ (u : Sg) (P P0 N : Nat) (x1 : Int32) (Q : Outcome → Sg → Prop), FJ pFd σ u → SIv u → u.I 2208 0 0 = nI P → P + (hi - lo) ≤ 1703 → P0 ≤ P → (∀ u', FJ pFd σ u' → SIv u' → u'.I 2208 0 0 = nI P → PaS u u' P → wq_X11_folded_124 l G d 0 x1 (nI (cM k)) Q N (nI P0) (lO (jCs τ k x)) u') → ∃ M, wq_X11_folded_8 l G d 0 x1 (nI (cM k)) Q M (nI P0) v u := sorry
/-- the model's folded -/
theorem sp_X11_folded (hG : GOK G) {τ σ : Sg} {b k L n0 lo hi d w0 a0 e0 P : Nat} {B0 : Nat → Nat} {x : Tr} {v : Int32} (hU : JgU τ σ k) (hb : b < 16) (hM : MTr σ b (yTok B0 n0) x lo hi v) (hw : wt x 0 w0 a0 e0) (hnm : nmT (yTok B0 n0) L x) (hhi : hi ≤ 1700) (hd : ht x + 13 ≤ d) (hI : SIv σ) (h08 : σ.I 2208 0 0 = nI P) (hP : P + (hi - lo) ≤ 1703) {x2 : Int32} (e2 : x2 = nI (cM k)) : CT l G yX11_folded (ws_ yX11_folded cX11_folded 9 (some .long)) d [.ref (G.adr 11 0), .int v, .int x2] σ (rL (lO (jCs τ k x)) (fun u => FJ pFd σ u ∧ SIv u ∧ u.I 2208 0 0 = nI P ∧ PaS σ u P)) := sorry
end SPX
