/-! LinkHouse's uses: what is needed (the methods). -/
section SPX
variable {l : Launch} {G : Gl} {d : Nat} {σ : Sg} {w b k n0 : Nat} {U : List Us} {r : Us}
/-- the fresh use, without its member -/
theorem lw_fr {x1 : Int32} {l2 l4 : Int64} (hw : w < 2) (hW : LW σ w b k U n0) : Fl (pL1 (16000 + w)) σ (sL (sL (sR (sI σ 1700 (16000 + w) 0 x1) 1701 (16000 + w) 0 (σ.R 1603 w 0)) 1702 (16000 + w) 0 l2) 1703 (16000 + w) 0 l4) ∧ Shp (sL (sL (sR (sI σ 1700 (16000 + w) 0 x1) 1701 (16000 + w) 0 (σ.R 1603 w 0)) 1702 (16000 + w) 0 l2) 1703 (16000 + w) 0 l4) := sorry
theorem Shp_row {s s' : Sg} {Y : Nat} (hS : Shp s) (hF : Fl (pMrw Y) s s') (h8 : ∃ n, n ≤ 4 ∧ s'.I 1208 Y 0 = nI n) : Shp s' := sorry
/-- a class is named -/
theorem sp_X6_needs_n (hG : GOK G) {v : Nat} {c o : Int64} {x1 : Int32} {l2 l4 : Int64} (hd : 6 ≤ d) (hW : LW σ w b k U n0) (hv : v = 1 ∨ (13 ≤ v ∧ v ≤ 15) ∨ (17 ≤ v ∧ v ≤ 19)) (hr : UOK (k, v, c, o, 0, 0, [], 0)) (hL : (addU U (k, v, c, o, 0, 0, [], 0)).length ≤ 1000) (e1 : x1 = nI v) (e2 : l2 = c) (e4 : l4 = o) : CT l G yX6_needs_2 (ws_ yX6_needs_2 cX6_needs_2 7 (some .int)) d [.ref (G.adr 6 w), .int x1, .long l2, .long l4, rv G 2 none] σ (rI (nI (uIx (addU U (k, v, c, o, 0, 0, [], 0)) (k, v, c, o, 0, 0, [], 0) - n0)) (fun s => Fl (pLv b w) σ s ∧ LW s w b k (addU U (k, v, c, o, 0, 0, [], 0)) n0)) := sorry
/-- a member is named -/
theorem sp_X6_needs_m (hG : GOK G) {m : Nat} {x1 : Int32} {l2 l4 : Int64} (hd : 6 ≤ d) (hW : LW σ w b k U n0) (hm : m < 6402) (hrk : r.1 = k) (hr : UOK r) (cr : UCn r) (hp : (r.2.1 = 2 ∨ (7 ≤ r.2.1 ∧ r.2.1 ≤ 12)) → r.2.2.2.2.2.2.1 = pmL σ m) (hn : 3 ≤ r.2.1 ∧ r.2.1 ≤ 12 → r.2.2.2.2.1 = σ.L 1201 m 0 ∧ r.2.2.2.2.2.1 = σ.L 1207 m 0) (h7 : 7 ≤ r.2.1 ∧ r.2.1 ≤ 12 → σ.I 1200 m 0 = 1) (h16 : r.2.1 = 16 → r.2.2.2.2.1 = σ.L 1201 m 0 ∧ r.2.2.2.2.2.2.2 = σ.I 1213 m 0) (hL : (addU U r).length ≤ 1000) (e1 : x1 = nI r.2.1) (e2 : l2 = r.2.2.1) (e4 : l4 = r.2.2.2.1) : CT l G yX6_needs_2 (ws_ yX6_needs_2 cX6_needs_2 7 (some .int)) d [.ref (G.adr 6 w), .int x1, .long l2, .long l4, rv G 2 (some m)] σ (rI (nI (uIx (addU U r) r - n0)) (fun s => Fl (pLv b w) σ s ∧ LW s w b k (addU U r) n0)) := sorry
end SPX
