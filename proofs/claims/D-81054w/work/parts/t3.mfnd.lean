/-! The model finds the classes that LinkHouse's worlds hold. -/
section HTT
variable {τ : Sg} {nm : Int64}
theorem hTt_app {A C : List Nat} : hTt τ (A ++ C) nm = (hTt τ A nm).or (hTt τ C nm) := sorry
theorem hTt_e {A : List Nat} {k : Nat} (h : hTt τ A nm = some k) : k ∈ A ∧ τ.L 1100 k 0 = nm := sorry
theorem hTt_1 {k : Nat} : hTt τ [k] nm = if τ.L 1100 k 0 = nm then some k else none := sorry
theorem hTt_wA1 {K : List Nat} {k : Nat} : hTt τ (wA1 τ K k) nm = hTt τ (K ++ [k]) nm := sorry
theorem hTt_wAd : ∀ (ks K : List Nat), hTt τ (wAd τ K ks) nm = hTt τ (K ++ ks) nm := sorry
end HTT
theorem kdL_g {b nk k : Nat} (h : k < nk) : (kdL b nk)[k]? = some (12 * b + k) := sorry
/-- the names of the classes of a build agree -/
def NmE (τ σ : Sg) (b nk : Nat) : Prop := nk ≤ 12 ∧ σ.I 2123 0 b = nI nk ∧ ∀ i, i < nk → TyC (τ.L 1100 (12 * b + i) 0) ∧ σ.L 2124 0 (12 * b + i) = tM (τ.L 1100 (12 * b + i) 0)
def Lbs (F : Nat → List Nat) : Nat → Nat → List Nat
  | 0, _ => []
  | n + 1, k => F k ++ Lbs F n (k + 1)
theorem Lbs_5 {F : Nat → List Nat} : (List.range 5).flatMap F = Lbs F 5 0 := sorry
section MFN
variable {τ σ : Sg} {nm : Int64} {b nk : Nat}
theorem mIn_h (hb : b < 16) (h : NmE τ σ b nk) (hn : TyC nm) : mIn σ b (tM nm) = (hTt τ (kdL b nk) nm).map cM := sorry
/-- what the model asks of the libraries -/
def LbE (τ σ : Sg) (F : Nat → List Nat) (nm : Int64) : Prop := ∀ k, k < 5 → (mTh σ k = true → ∃ b nk, b < 16 ∧ σ.I 2190 0 k = nI b ∧ NmE τ σ b nk ∧ F k = kdL b nk) ∧ (mTh σ k = false → hTt τ (F k) nm = none)
theorem mLp_h {F : Nat → List Nat} (h : LbE τ σ F nm) (hn : TyC nm) : ∀ (n k : Nat), k + n = 5 → mLp σ (tM nm) n k = (hTt τ (Lbs F n k) nm).map cM := sorry
theorem mF2_h {F : Nat → List Nat} (h : LbE τ σ F nm) (hn : TyC nm) (h2 : τ.L 1100 192 0 = 6927257) (h3 : τ.L 1100 193 0 = 6959884) : mF2 σ (tM nm) = (hTt τ ([192, 193] ++ Lbs F 5 0) nm).map cM := sorry
/-- THE WORLD -/
theorem mFnd_0 {F : Nat → List Nat} (hj : σ.I 2191 0 0 = -2) (h : LbE τ σ F nm) (hn : TyC nm) (h2 : τ.L 1100 192 0 = 6927257) (h3 : τ.L 1100 193 0 = 6959884) : mFnd σ (tM nm) = (hTt τ ([192, 193] ++ Lbs F 5 0) nm).map cM := sorry
/-- the judge's world -/
theorem mFnd_1 {F : Nat → List Nat} {b nk : Nat} (hb : b < 16) (hj : σ.I 2191 0 0 = nI b) (hN : NmE τ σ b nk) (h : hTt τ (kdL b nk) nm = none → LbE τ σ F nm) (hn : TyC nm) (h2 : τ.L 1100 192 0 = 6927257) (h3 : τ.L 1100 193 0 = 6959884) : mFnd σ (tM nm) = (hTt τ (kdL b nk ++ ([192, 193] ++ Lbs F 5 0)) nm).map cM := sorry
end MFN
