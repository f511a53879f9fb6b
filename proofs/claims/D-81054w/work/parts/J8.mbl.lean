/-! Judging, the model: the bridges of all classes. -/
theorem wFind_sx {σ : Sg} {w : Nat} {nm : Int64} : wFind (stP sx σ) w nm = wFind σ w nm := sorry
theorem wKs_sx {σ : Sg} {w : Nat} : wKs (stP sx σ) w = wKs σ w := sorry
theorem ExM.fnd {τ σ : Sg} {nm : Int64} (h : ExM τ σ) : wFind σ 1 nm = wFind τ 1 nm := sorry
theorem MWd_sx {τ σ s : Sg} {U : List Nat} (he : stP sx σ = stP sx τ) (hW : WOK σ 1) (hS : Shp σ) (h : MWd τ s 1 U) : MWd σ s 1 U := sorry
/-- the end: bridges of all classes -/
def BrD (τ u : Sg) (b nk : Nat) (Bf : Nat → BrL) : Prop := BfK τ b nk Bf ∧ (∀ c p, p ∈ Bf c → ¬ p.2 = 2) ∧ (∀ k, k < nk → MK7 τ u (12 * b + k) (Bf (12 * b + k))) ∧ ∀ k, k < nk → brA τ (12 * b + k) (nMe τ (12 * b + k)) 0 [] = .ok (Bf (12 * b + k))
/-- what must be known ahead of makers and bridges -/
def BrH (τ σ : Sg) (b nk : Nat) (T : Nat → Tk) : Prop := MWd τ σ 1 (wKs τ 1) ∧ (b < 16 ∧ nk ≤ 12 ∧ σ.I 2119 0 0 = nI b ∧ σ.I 2123 0 b = nI nk) ∧ (∀ k, k < nk → 12 * b + k ∈ wKs τ 1 ∧ nMe τ (12 * b + k) ≤ 20 ∧ ¬ wHr τ 1 (12 * b + k) (12 * b + k) ∧ σ.I 2125 0 (12 * b + k) = nI (T (tkN (τ.I 1124 (12 * b + k) 0))).2.2.1 ∧ ∀ j, j < nMe τ (12 * b + k) → τ.B 1206 (33 * (12 * b + k) + j) 0 = false) ∧ AbU τ σ (wKs τ 1)
section SPX
variable {l : Launch} {G : Gl} {d : Nat}
theorem BrH.nm {τ σ : Sg} {b nk : Nat} {T : Nat → Tk} (h : BrH τ σ b nk T) : ∀ c, 12 * b ≤ c ∧ c < 12 * b + nk → nMe τ c ≤ 20 := sorry
theorem BrH.fj {τ σ u : Sg} {b nk : Nat} {T : Nat → Tk} (h : BrH τ σ b nk T) (hF : FJ (pQb τ b nk) σ u) : MWd τ u 1 (wKs τ 1) ∧ (∀ c, c ∈ wKs τ 1 → MK1 τ u c) ∧ (∀ c, c ∈ wKs τ 1 → ∀ j, j < nMe τ c → MM τ u (33 * c + j) (34 * cM c + j)) ∧ ∀ c, c ∈ wKs τ 1 → ¬ (12 * b ≤ c ∧ c < 12 * b + nk) → MKm τ u c := sorry
/-- what is known over the formal snapshot -/
theorem BrH.abu {τ σ u : Sg} {b nk : Nat} {T : Nat → Tk} {Bf : Nat → BrL} (h : BrH τ σ b nk T) (hF : FJ (pQb τ b nk) σ u) (hB : BfK τ b nk Bf) (h2 : ∀ c p, p ∈ Bf c → ¬ p.2 = 2) (h7 : ∀ k, k < nk → MK7 τ u (12 * b + k) (Bf (12 * b + k))) : ExM τ (xS τ b nk Bf) ∧ MWd (xS τ b nk Bf) u 1 (wKs (xS τ b nk Bf) 1) ∧ AbU (xS τ b nk Bf) u (wKs (xS τ b nk Bf) 1) := sorry
/-- the bridges, class by class -/
theorem mk_184 (hG : GOK G) {τ σ : Sg} {b nk : Nat} {T : Nat → Tk} {Q : Outcome → Sg → Prop} (hd : 7 ≤ d) (hH : BrH τ σ b nk T) (hN : ∀ u, FJ (pQb τ b nk) σ u → SIv u → FLq u T (jFor (jBr τ b) nk 0) → (jFor (jBr τ b) nk 0 = .ok () → ∃ Bf, BrD τ u b nk Bf) → Q (.returned none) u) : ∀ (m i : Nat) (u : Sg) (Bf : Nat → BrL), i + m = nk → FJ (pQb τ b nk) σ u → SIv u → FLq u T (.ok ()) → jFor (jBr τ b) nk 0 = jFor (jBr τ b) m i → BfK τ b nk Bf → (∀ c p, p ∈ Bf c → ¬ p.2 = 2) → (∀ k, k < nk → MK7 τ u (12 * b + k) (Bf (12 * b + k))) → (∀ k, k < i → brA τ (12 * b + k) (nMe τ (12 * b + k)) 0 [] = .ok (Bf (12 * b + k))) → (∀ k, i ≤ k → Bf (12 * b + k) = []) → wq_X11_makersAndBridges_184 l G d 0 Q (m + 1) (nI i) u := sorry
/-- all makers, then all bridges -/
theorem sp_X11_makersAndBridges (hG : GOK G) {τ σ : Sg} {b nk : Nat} {T : Nat → Tk} (hd : 8 ≤ d) (hH : BrH τ σ b nk T) (hI : SIv σ) (hq : FLq σ T (.ok ())) : CT l G yX11_makersAndBridges (ws_ yX11_makersAndBridges cX11_makersAndBridges 5 none) d [.ref (G.adr 11 0)] σ (rV (fun u => FJ (pQb τ b nk) σ u ∧ SIv u ∧ FLq u T (jFor (jBr τ b) nk 0) ∧ (jFor (jBr τ b) nk 0 = .ok () → ∃ Bf, BrD τ u b nk Bf))) := sorry
end SPX
