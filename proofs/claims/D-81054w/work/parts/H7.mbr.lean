/-! Judging, the model: a new bridge; whether a bridge is there. -/
/-- the columns of a new member q of class c -/
def pNq (c q x j : Nat) : Bool := (rg 2141 2168 x && (!rg 2155 2159 x && Nat.beq j q)) || ((Nat.beq x 2156 && (Nat.ble (4 * q) j && Nat.ble (j + 1) (4 * q + 4))) || (Nat.beq x 2141 && Nat.beq j c))
theorem pNq_iff {c q x j : Nat} : pNq c q x j = true ↔ (2141 < x ∧ x ≤ 2168 ∧ ¬ (2155 < x ∧ x ≤ 2159) ∧ j = q) ∨ (x = 2156 ∧ 4 * q ≤ j ∧ j < 4 * q + 4) ∨ (x = 2141 ∧ j = c) := sorry
theorem pNq_no {c q x j : Nat} (h : ¬ ((2141 < x ∧ x ≤ 2168 ∧ ¬ (2155 < x ∧ x ≤ 2159) ∧ j = q) ∨ (x = 2156 ∧ 4 * q ≤ j ∧ j < 4 * q + 4) ∨ (x = 2141 ∧ j = c))) : pNq c q x j = false := sorry
/-- q is a bridge from qm, of result t -/
def MBq (σ s : Sg) (q qm np : Nat) (t : Int64) : Prop := (s.I 2142 0 q = 1 ∧ s.I 2143 0 q = 0 ∧ s.I 2144 0 q = σ.I 2144 0 qm ∧ s.I 2155 0 q = nI np ∧ s.I 2160 0 q = (-2) ∧ s.I 2161 0 q = (-2) ∧ s.I 2165 0 q = 0 ∧ s.I 2167 0 q = (-2) ∧ s.I 2168 0 q = nI np) ∧ (s.B 2145 0 q = σ.B 2145 0 qm ∧ s.B 2146 0 q = false ∧ s.B 2147 0 q = false ∧ s.B 2148 0 q = false ∧ s.B 2149 0 q = true ∧ s.B 2150 0 q = false ∧ s.B 2164 0 q = false) ∧ (s.L 2151 0 q = σ.L 2151 0 qm ∧ s.L 2153 0 q = t ∧ s.L 2166 0 q = σ.L 2153 0 qm) ∧ ∀ i, i < np → s.L 2156 0 (4 * q + i) = σ.L 2156 0 (4 * qm + i)
theorem nwM_fj {σ : Sg} {c q : Nat} : FJ (pNq c q) σ (nwM σ q) := sorry
theorem nwM_f {σ : Sg} {q : Nat} : (nwM σ q).I 2160 0 q = (-2) ∧ (nwM σ q).I 2161 0 q = (-2) ∧ (nwM σ q).I 2165 0 q = 0 ∧ (nwM σ q).I 2167 0 q = (-2) ∧ (nwM σ q).B 2146 0 q = false ∧ (nwM σ q).B 2148 0 q = false ∧ (nwM σ q).B 2150 0 q = false ∧ (nwM σ q).B 2164 0 q = false := sorry
section SPX
variable {l : Launch} {G : Gl} {d : Nat}
theorem sp_X11_bridge (hG : GOK G) {σ : Sg} {c qm nm np : Nat} {t : Int64} (hd : 2 ≤ d) (hc : c < 216) (h41 : σ.I 2141 0 c = nI nm) (hnm : nm < 34) (hqm : qm < 7344) (hne : ¬ qm = 34 * c + nm) (hp : σ.I 2155 0 qm = nI np) (hnp : np ≤ 4) {x y : Int32} (hx : x = nI c) (hy : y = nI qm) : CT l G yX11_bridge (ws_ yX11_bridge cX11_bridge 7 (some .int)) d [.ref (G.adr 11 0), .int x, .int y, .long t] σ (rI (nI (34 * c + nm)) (fun s => FJ (pNq c (34 * c + nm)) σ s ∧ s.I 2141 0 c = nI (nm + 1) ∧ MBq σ s (34 * c + nm) qm np t)) := sorry
end SPX
