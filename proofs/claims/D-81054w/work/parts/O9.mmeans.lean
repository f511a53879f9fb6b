/-! Judging, the model: what a call means. -/
def pMn (X c j : Nat) : Bool := decide ((2181 < c ∧ c ≤ 2184 ∧ j = X) ∨ (c = 2185 ∧ j = X) ∨ (c = 2186 ∧ 4 * X ≤ j ∧ j < 4 * X + 4))
theorem pMn_iff {X c j : Nat} : pMn X c j = true ↔ (2181 < c ∧ c ≤ 2184 ∧ j = X) ∨ (c = 2185 ∧ j = X) ∨ (c = 2186 ∧ 4 * X ≤ j ∧ j < 4 * X + 4) := sorry
theorem pMn_no {X c j : Nat} (h : c ≤ 2181 ∨ 2186 < c) : pMn X c j = false := sorry
theorem pKp_pMn {X : Nat} : ∀ c j, pKp X c j = true → pMn X c j = true := sorry
theorem MSg_n {τ σ s : Sg} {m q : Nat} {p : Nat → Nat → Bool} (h : MSg τ σ m q) (hF : FJ p σ s) (hp : ∀ c j, 2150 < c → c ≤ 2156 → p c j = false) : MSg τ s m q := sorry
section SPX
variable {l : Launch} {G : Gl} {d : Nat}
theorem sp_X11_means (hG : GOK G) {τ σ : Sg} {X m q : Nat} (hd : 2 ≤ d) (hX : X < 30600) (hm : MM τ σ m q) {x1 x2 : Int32} {nm : Int64} (e1 : x1 = nI X) (e2 : x2 = nI q) : CT l G yX11_means (ws_ yX11_means cX11_means 5 (some .long)) d [.ref (G.adr 11 0), .int x1, .int x2, .long nm] σ (rL (tM (τ.L 1207 m 0)) (fun s => FJ (pMn X) σ s ∧ s.I 2182 0 X = bI (τ.B 1203 m 0) ∧ s.L 2183 0 X = nm ∧ s.L 2184 0 X = tM (τ.L 1207 m 0) ∧ KpP τ s X m)) := sorry
end SPX
