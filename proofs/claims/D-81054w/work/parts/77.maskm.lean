/-! The model: askMethod -/
variable {φ : Sg}
def mtN (τ : Sg) (u : Nat) (r : MT) : Option Nat := if τ.I 1700 u 0 = 11 ∨ τ.I 1700 u 0 = 12 then r.2.2.2.1 else r.2.2.1
theorem bI_eq {a b : Bool} : bI a = bI b ↔ a = b := sorry
section SPMT
variable {l : Launch} {G : Gl} {τ σ : Sg}
theorem sp_X11_askMethod (hG : GOK G) (hM : MLk τ σ) {B d u b c : Nat} (hd : 141 ≤ d) (hsg : MSg τ σ (6402 + u) 7343) (h1 : τ.I 1200 (6402 + u) 0 = 1) (hl : σ.B 2192 0 0 = true) {v : Nat} (hv1 : 7 ≤ v) (hv2 : v ≤ 12) (ev : τ.I 1700 u 0 = nI v) {st : LSt} (hL : LOK st) (hC : LCL τ st) (hE : EVB B st) (hc : Ldd τ st c) (hb : Ldd τ st b) (h11 : τ.I 1700 u 0 = 11 → τ.B 1102 b 0 = false ∧ ¬ τ.L 1100 b 0 = 6927257 ∧ ¬ τ.I 1101 b 0 = 26) {ρ : Sg} (hf : MA φ ρ B st none []) {y z : Int32} (hy : y = nI (cM c)) (hz : z = nI (cM b)) : CT l G yX11_askMethod (ws_ yX11_askMethod cX11_askMethod 7 (some .int)) d [.ref (G.adr 11 0), .int (τ.I 1700 u 0), .int y, .int z] (mix pA σ ρ) (aA φ σ B (clR τ u b c st none).1 (clR τ u b c st none).2.1 (mtN τ u (clR τ u b c st none)) (clR τ u b c st none).2.2.2.2) := sorry
end SPMT
