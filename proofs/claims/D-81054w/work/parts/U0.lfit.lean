/-! LinkHouse: what is given where a type is wanted; the code of an E in plain terms. -/
section SPX
variable {l : Launch} {G : Gl} {d : Nat} {σ : Sg} {w b k n0 : Nat} {U : List Us}
theorem sp_X6_fit (hG : GOK G) {t v : Int64} {l1 l3 : Int64} (hd : 7 ≤ d) (hW : LW σ w b k U n0) (hf : t = v ∨ t = 2 ∨ (TyC t ∧ TyC v)) (hL : (addL U (fitU k t v)).length ≤ 1000) (e1 : l1 = t) (e3 : l3 = v) : CT l G yX6_fit (ws_ yX6_fit cX6_fit 5 none) d [.ref (G.adr 6 w), .long l1, .long l3] σ (rV (fun s => Fl (pLv b w) σ s ∧ LW s w b k (addL U (fitU k t v)) n0)) := sorry
end SPX
/-! THE CODE in plain terms; ix r: the number of the use r, as the code holds it -/
/-- a field is asked -/
def gtC (τ : Sg) (k : Nat) (ix : Us → Int32) (b : Lb) : List Int32 := if τ.B 1212 (mB b) 0 = true then [2, τ.I 1213 (mB b) 0] else if τ.B 1203 (mB b) 0 = true then [15, ix (gtU τ k b)] else [13, ix (gtU τ k b)]
/-- the code of an E, or of a row of them -/
def cdE (τ : Sg) (k : Nat) (ix : Us → Int32) : Tr → List Int32
  | .leaf => []
  | .inner _ b _ x y =>
    if b.1 = 0 then cdE τ k ix x ++ cdE τ k ix y
    else if b.1 = 1 then [2, nI b.2.2.2.2.2.1]
    else if b.1 = 2 then [2, 0]
    else if b.1 = 3 then [3, 0]
    else if b.1 = 4 then (if b.2.2.2.2.2.2.2.1 = 0 then [3, nI (b.2.2.2.2.2.2.2.2.2 - 1)] else (if τ.B 1203 (mB b) 0 = true then [] else [3, 0]) ++ gtC τ k ix b)
    else if b.1 = 6 then gtC τ k ix b
    else if b.1 = 17 then cdE τ k ix x ++ gtC τ k ix b
    else if b.1 = 5 then (if τ.B 1203 (mB b) 0 = true then [] else [3, 0]) ++ (cdE τ k ix y ++ [17, ix (uL τ k (clS τ b) (τ.L 1100 (cB b) 0) (mB b))])
    else if b.1 = 7 then cdE τ k ix y ++ [17, ix (uL τ k (clS τ b) (τ.L 1100 (cB b) 0) (mB b))]
    else if b.1 = 8 ∨ b.1 = 9 then [3, 0] ++ (cdE τ k ix y ++ [17, ix (uL τ k (clS τ b) (τ.L 1100 (cB b) 0) (mB b))])
    else if b.1 = 18 then cdE τ k ix x ++ (cdE τ k ix y ++ [17, ix (uL τ k (clS τ b) (τ.L 1100 (cB b) 0) (mB b))])
    else if b.1 = 10 then [18, ix (uC k 1 (τ.L 1100 (cB b) 0))] ++ (cdE τ k ix y ++ [19, ix (uM τ k (τ.L 1100 (cB b) 0) (mB b))])
    else if b.1 = 11 then cdE τ k ix x ++ [20, ix (uC k 13 (lN b.2.2.2.2.2.1))]
    else if b.1 = 19 then cdE τ k ix x ++ [21, ix (uC k 14 (lN b.2.2.2.2.2.1))]
    else if b.1 = 20 then cdE τ k ix x
    else if b.1 = 13 then cdE τ k ix x ++ (cdE τ k ix y ++ [10, 0])
    else cdE τ k ix x ++ (cdE τ k ix y ++ [if b.1 = 12 then 9 else if b.1 = 14 then 6 else if b.1 = 15 then 7 else 8, 0])
