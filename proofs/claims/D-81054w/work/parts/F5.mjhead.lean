/-! Judging, the model: heads. -/
section SPX
variable {l : Launch} {G : Gl} {d : Nat}
theorem LA_30 : LA 2130 864 := sorry
theorem LA_35 : LA 2135 1728 := sorry
theorem sp_X11_head (hG : GOK G) {τ σ : Sg} {b c : Nat} {U : List Nat} {T : Nat → Tk} {r : PR Unit} (hd : 6 ≤ d) (hM : MJ τ σ b U) (hcU : c ∈ U) (hc2 : c < 192) (hP : MK3 τ σ T c) (hcb : τ.R 1126 c 0 = some b) (hq : FLq σ T r) {x : Int32} (hx : x = nI (cM c)) : CT l G yX11_head (ws_ yX11_head cX11_head 4 none) d [.ref (G.adr 11 0), .int x] σ (rV (fun u => FJ pFt σ u ∧ FLq u T (bnd r fun _ => jHd τ b c))) := sorry
end SPX
