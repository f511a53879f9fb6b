/-! The model's uses of a bridge. -/
/-- the sort of a bridge's call -/
def brV (τ : Sg) (k m : Nat) : Nat := (if τ.B 1102 k 0 = true then 8 else 7) + (if τ.B 1203 m 0 = true then 2 else 0)
/-- the uses of a bridge m of class k, that calls t -/
def brU (τ : Sg) (k m t : Nat) : List Us := uL τ k (brV τ k m) (τ.L 1100 k 0) t :: fitU k (τ.L 1207 t 0) (τ.L 1207 m 0)
section SPX
variable {l : Launch} {G : Gl} {d : Nat} {τ σ : Sg} {b k : Nat} {U : List Us}
theorem sp_X11_bridgeUse (hG : GOK G) {m t : Nat} {x1 x2 : Int32} (hd : 3 ≤ d) (hJ : JU τ σ b k U) (hm : LivU τ (wKs τ 1) m) (ht : LivU τ (wKs τ 1) t) (hn : τ.L 1201 t 0 = τ.L 1201 m 0) (hp : pmL τ t = pmL τ m) (hw : TyOK (τ.L 1207 m 0)) (hf : τ.L 1207 t 0 = τ.L 1207 m 0 ∨ τ.L 1207 t 0 = 2 ∨ (TyC (τ.L 1207 t 0) ∧ TyC (τ.L 1207 m 0))) (h66 : σ.L 2166 0 (mM m) = tM (τ.L 1207 t 0)) (hL : (addL U (brU τ k m t)).length < 1800) (e1 : x1 = nI (cM k)) (e2 : x2 = nI (mM m)) : CT l G yX11_bridgeUse (ws_ yX11_bridgeUse cX11_bridgeUse 6 (some .int)) d [.ref (G.adr 11 0), .int x1, .int x2] σ (rI (nI (1800 * b + uIx (addU U (uL τ k (brV τ k m) (τ.L 1100 k 0) t)) (uL τ k (brV τ k m) (τ.L 1100 k 0) t))) (fun s => FJ (pUu b) σ s ∧ MS s b k (addL U (brU τ k m t)))) := sorry
end SPX
