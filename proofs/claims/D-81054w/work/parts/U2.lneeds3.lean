/-! LinkHouse: a class is named (the short form). -/
section SPX
variable {l : Launch} {G : Gl} {d : Nat} {σ : Sg} {w b k n0 : Nat} {U : List Us}
theorem sp_X6_needs (hG : GOK G) {v : Nat} {c : Int64} {x1 : Int32} {l2 : Int64} (hd : 7 ≤ d) (hW : LW σ w b k U n0) (hv : v = 1 ∨ (13 ≤ v ∧ v ≤ 15) ∨ (18 ≤ v ∧ v ≤ 19)) (hc : TyC c) (hL : (addU U (uC k v c)).length ≤ 1000) (e1 : x1 = nI v) (e2 : l2 = c) : CT l G yX6_needs (ws_ yX6_needs cX6_needs 4 (some .int)) d [.ref (G.adr 6 w), .int x1, .long l2] σ (rI (nI (uIx (addU U (uC k v c)) (uC k v c) - n0)) (fun s => Fl (pLv b w) σ s ∧ LW s w b k (addU U (uC k v c)) n0)) := sorry
end SPX
