/-! LinkHouse judges and writes a build: all that must be known is known. -/
section SPX
variable {l : Launch} {G : Gl} {d : Nat} {σ τ0 : Sg} {b n r L : Nat} {B : Nat → Nat} {cs : List CRc}
theorem sp_X6_allR (hG : GOK G) (hd : 1712 ≤ d) (hb : b < 16) (hτ : τ0 = sR σ 1602 0 0 (some b)) (hJ : JL τ0 τ0 b B n r cs.length) (hz : τ0.I 2009 b 0 = 0 ∧ τ0.I 2011 b 0 = 0 ∧ τ0.I 2013 b 0 = 0) (hR : RdT τ0 B n L b cs) (hr : L ≤ r) (hM : MOK τ0) (hO : OtK τ0 b cs.length) (hA : wFind τ0 1 6927257 = some 192) : CT l G yX6_all (ws_ yX6_all cX6_all 4 none) d [.ref (G.adr 6 0), rv G 10 (some b)] σ (RAl G τ0 b B n r cs.length (trB cs)) := sorry
end SPX
