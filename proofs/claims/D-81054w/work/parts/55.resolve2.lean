/-! Linker: resolve, begin -/
section SPV
variable {l : Launch} {G : Gl} {σ : Sg}
theorem sp_X8_resolve (hG : GOK G) {d i u b : Nat} (hd : 138 ≤ d) (hi : i < cnt 8) (hW : WOK σ 0) (hS : Shp σ) (hN : WNO σ) (hM : MOK σ) (hB : BIK σ) (hu : u < cnt 7) (hub : σ.R 1701 u 0 = some b) (hb : b ∈ wKs σ 0) {st : LSt} (hL : LOK st) (hC : LCL σ st) (hf : LSR σ i st) (h11 : σ.I 1700 u 0 = 11 → σ.B 1102 b 0 = false ∧ ¬ σ.L 1100 b 0 = 6927257 ∧ ¬ σ.I 1101 b 0 = 26) : CT l G yX8_resolve (ws_ yX8_resolve cX8_resolve 5 (some .int)) d [.ref (G.adr 8 i), rv G 7 (some u)] σ (rI (rsR σ u b st).1 (fun s => ∃ ρ', s = mix (pM i) σ ρ' ∧ MRt ρ' i (rsR σ u b st))) := sorry
end SPV
/-- nothing is loaded -/
def LS0 : LSt := (fun _ => 0, [])
theorem LS0_ok : LOK LS0 := sorry
theorem LS0_cl {σ : Sg} : LCL σ LS0 := sorry
theorem sp_X8_begin {l : Launch} {G : Gl} {σ : Sg} (hG : GOK G) {d i : Nat} (hd : 1 ≤ d) (hi : i < cnt 8) : CT l G yX8_begin (ws_ yX8_begin cX8_begin 2 none) d [.ref (G.adr 8 i)] σ (rV (fun s => ∃ ρ, s = mix (pK i) σ ρ ∧ LSR ρ i LS0)) := sorry
