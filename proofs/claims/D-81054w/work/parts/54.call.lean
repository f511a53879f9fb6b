/-! Linker: called, resolve, begin -/
theorem Ldd.keep {σ : Sg} {st st' : LSt} {k : Nat} (h : Ldd σ st k) (hk : ∀ j, st.1 j ≠ 0 → st'.1 j = st.1 j) : Ldd σ st' k := sorry
theorem Ldd.par {σ : Sg} (hW : WOK σ 0) (hB : BIK σ) {st : LSt} (hC : LCL σ st) {k p : Nat} (h : Ldd σ st k) (hp : wPar σ 0 k = some p) : Ldd σ st p := sorry
theorem Ldd.up {σ : Sg} {st : LSt} {b : Nat} (hb : Ldd σ st b) (hC : LCL σ st) (g3 : ¬ σ.I 1101 b 0 = 26) (g1 : σ.B 1102 b 0 = false) (g2 : ¬ σ.L 1100 b 0 = 6927257) : ∃ p, wPar σ 0 b = some p := sorry
section SPU
variable {l : Launch} {G : Gl} {σ : Sg}
theorem sp_X8_called (hG : GOK G) {d i u b c : Nat} (hd : 137 ≤ d) (hi : i < cnt 8) (hW : WOK σ 0) (hS : Shp σ) (hN : WNO σ) (hM : MOK σ) (hB : BIK σ) (hu : u < cnt 7) (hub : σ.R 1701 u 0 = some b) {st : LSt} {t : Option Nat} (hL : LOK st) (hC : LCL σ st) (hc : Ldd σ st c) (hb : Ldd σ st b) (h11 : σ.I 1700 u 0 = 11 → σ.B 1102 b 0 = false ∧ ¬ σ.L 1100 b 0 = 6927257 ∧ ¬ σ.I 1101 b 0 = 26) {ρ : Sg} (hr : MR ρ i st none t []) : CT l G yX8_called (ws_ yX8_called cX8_called 8 (some .int)) d [.ref (G.adr 8 i), rv G 7 (some u), rv G 1 (some c)] (mix (pM i) σ ρ) (rI (clR σ u b c st t).1 (fun s => ∃ ρ', s = mix (pM i) σ ρ' ∧ MRt ρ' i (clR σ u b c st t))) := sorry
end SPU
