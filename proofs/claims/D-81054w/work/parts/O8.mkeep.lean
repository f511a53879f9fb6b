/-! Judging, the model: the params that a node means. -/
def pKp (X c j : Nat) : Bool := decide ((c = 2185 ∧ j = X) ∨ (c = 2186 ∧ 4 * X ≤ j ∧ j < 4 * X + 4))
theorem pKp_iff {X c j : Nat} : pKp X c j = true ↔ (c = 2185 ∧ j = X) ∨ (c = 2186 ∧ 4 * X ≤ j ∧ j < 4 * X + 4) := sorry
theorem pKp_no {X c j : Nat} (h : c ≤ 2184 ∨ 2186 < c ∨ (c = 2185 ∧ ¬ j = X) ∨ (c = 2186 ∧ (j < 4 * X ∨ 4 * X + 4 ≤ j))) : pKp X c j = false := sorry
/-- the params of m are kept at X -/
def KpP (τ s : Sg) (X m : Nat) : Prop := s.I 2185 0 X = nI (nPa τ m) ∧ ∀ i, i < nPa τ m → s.L 2186 0 (4 * X + i) = tM (τ.L 1209 m i)
section SPX
variable {l : Launch} {G : Gl} {d : Nat}
theorem sp_X11_keepParams (hG : GOK G) {τ σ : Sg} {X m q : Nat} (hd : 1 ≤ d) (hX : X < 30600) (hm : MSg τ σ m q) {x1 x2 : Int32} (e1 : x1 = nI X) (e2 : x2 = nI q) : CT l G yX11_keepParams (ws_ yX11_keepParams cX11_keepParams 4 none) d [.ref (G.adr 11 0), .int x1, .int x2] σ (rV (fun s => FJ (pKp X) σ s ∧ KpP τ s X m)) := sorry
end SPX
