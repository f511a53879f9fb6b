/-! Judging, the model: whether a bridge is there. -/
/-- a bridge p is signed as o -/
def brS (τ : Sg) (p : Nat × Int64) (o : Nat) : Bool := decide (τ.L 1201 p.1 0 = τ.L 1201 o 0) && (decide (p.2 = τ.L 1207 o 0) && mPar τ p.1 o)
theorem brS_e {τ : Sg} {p : Nat × Int64} {o : Nat} (h : ¬ o = p.1) : mSgn (sL τ 1207 p.1 0 p.2) p.1 o = brS τ p o := sorry
section SPX
variable {l : Launch} {G : Gl} {d : Nat}
theorem sp_X11_hasBridge (hG : GOK G) {τ σ : Sg} {C T o qo : Nat} {Bs : BrL} (hd : 3 ≤ d) (hC : C < 216) (h41 : σ.I 2141 0 C = nI (T + Bs.length)) (hT : T + Bs.length ≤ 34) (hB : ∀ i p, Bs[i]? = some p → MSg (sL τ 1207 p.1 0 p.2) σ p.1 (34 * C + T + i) ∧ ¬ o = p.1) (ho : MSg τ σ o qo) {x y z : Int32} (hx : x = nI C) (hy : y = nI T) (hz : z = nI qo) : CT l G yX11_hasBridge (ws_ yX11_hasBridge cX11_hasBridge 6 (some .boolean)) d [.ref (G.adr 11 0), .int x, .int y, .int z] σ (rZ (Bs.any (fun p => brS τ p o)) (fun s => s = σ)) := sorry
end SPX
