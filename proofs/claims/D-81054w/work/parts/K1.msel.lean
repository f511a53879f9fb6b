/-! The model: selected. -/
noncomputable def mSelR (τ : Sg) (w m r : Nat) : Int32 := match wSel τ w m r with
  | some q => nI (mM q)
  | none => if wSelc τ w m r = 6 then (-6) else (-3)
section SPX
variable {l : Launch} {G : Gl} {d : Nat}
theorem sp_X11_selected (hG : GOK G) {τ σ : Sg} {w m r : Nat} (hd : 6 ≤ d) (hU : OvU τ σ w) (hm : LivU τ (wKs τ w) m) (hmk : kMet τ (mOf τ m) m = some m) (hob : mObj τ m = true ∨ (τ.I 1202 m 0 = 0 ∧ τ.B 1205 m 0 = false)) (hr : r ∈ wKs τ w) (hn : ¬ wHr τ w r r) (hs : SIv σ) {x1 x2 : Int32} (e1 : x1 = nI (mM m)) (e2 : x2 = nI (cM r)) : CT l G yX11_selected (ws_ yX11_selected cX11_selected 7 (some .int)) d [.ref (G.adr 11 0), .int x1, .int x2] σ (rI (mSelR τ w m r) (fun s => ∃ ρ, s = mix pS σ ρ ∧ SIv ρ)) := sorry
end SPX
