/-! The model: fits, isLet, packages -/
theorem MWd.cons {τ σ : Sg} {w a : Nat} (h : MWd τ σ w (wKs τ w)) (ha : a ∈ wKs τ w) : MWd τ σ w (a :: wKs τ w) := sorry
/-- the package of a class is the first letter of its name -/
def KPk (τ : Sg) (c : Nat) : Prop := ∃ n, 64 ≤ n ∧ n < 2 ^ 60 ∧ τ.L 1100 c 0 = lN n ∧ τ.I 1101 c 0 = nI (pkg n)
section SPMJ
variable {l : Launch} {G : Gl} {τ σ : Sg}
theorem sp_X11_fits (hG : GOK G) {d : Nat} (hd : 5 ≤ d) {w : Nat} (hU : MWd τ σ w (wKs τ w)) (hs : SIv σ) {h t : Int64} (hh : TyOK h) (ht : TyOK t) (ht2 : ¬ t = 2) : CT l G yX11_fits (ws_ yX11_fits cX11_fits 7 (some .boolean)) d [.ref (G.adr 11 0), .long (tM h), .long (tM t)] σ (rZ (wFits τ w h t) (fun s => ∃ ρ, s = mix pN σ ρ ∧ SIv ρ)) := sorry
theorem sp_X11_onePackage (hG : GOK G) {d : Nat} (hd : 3 ≤ d) {a b : Nat} (ha : a < cnt 1) (hb : b < cnt 1) (ka : MK1 τ σ a) (kb : MK1 τ σ b) (pa : KPk τ a) (pb : KPk τ b) {x y : Int32} (hx : x = nI (cM a)) (hy : y = nI (cM b)) : CT l G yX11_onePackage (ws_ yX11_onePackage cX11_onePackage 3 (some .boolean)) d [.ref (G.adr 11 0), .int x, .int y] σ (rZ (decide (τ.I 1101 a 0 = τ.I 1101 b 0)) (fun s => s = σ)) := sorry
theorem sp_X11_isLet (hG : GOK G) {d : Nat} (hd : 4 ≤ d) {c a : Nat} (hc : c < cnt 1) (ha : a < cnt 1) (kc : MK1 τ σ c) (ka : MK1 τ σ a) (pc : KPk τ c) (pa : KPk τ a) {x y : Int32} (hx : x = nI (cM c)) (hy : y = nI (cM a)) : CT l G yX11_isLet (ws_ yX11_isLet cX11_isLet 3 (some .boolean)) d [.ref (G.adr 11 0), .int x, .int y] σ (rZ (kOpn τ c a) (fun s => s = σ)) := sorry
end SPMJ
