/-! Judging, the model: a type of objects. -/
theorem TyC_ne {t : Int64} (h : TyC t) : ¬ t = 0 ∧ ¬ t = 1 ∧ ¬ t = 2 := sorry
section SPX
variable {l : Launch} {G : Gl} {d : Nat} {σ : Sg}
theorem sp_X11_isObject (hG : GOK G) (hd : 2 ≤ d) {t : Int64} (ht : TyOK t) : CT l G yX11_isObject (ws_ yX11_isObject cX11_isObject 2 (some .boolean)) d [.long (tM t)] σ (rZ (isOb t) (fun s => s = σ)) := sorry
end SPX
