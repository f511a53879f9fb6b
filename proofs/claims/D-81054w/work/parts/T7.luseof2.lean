/-! LinkHouse's uses: the number of a use. -/
section SPX
variable {l : Launch} {G : Gl} {d : Nat} {σ : Sg}
theorem sp_X6_useOf (hG : GOK G) (hS : Shp σ) {b k Y n0 : Nat} {U : List Us} {r : Us} (hd : 5 ≤ d) (hb : b < 16) (hk : k < cnt 1) (hY : 16000 ≤ Y ∧ Y < 16002) (hT : LUt σ b U) (hN : UNd U) (h19 : σ.I 1119 k 0 = nI n0) (hn0 : n0 ≤ U.length) (hE : ∀ i q, U[i]? = some q → (q.1 = k ↔ n0 ≤ i)) (hr : UOK r) (cr : UCn r) (hrk : r.1 = k) (uY : LUr σ Y r) (hL : (addU U r).length ≤ 1000) : CT l G yX6_useOf (ws_ yX6_useOf cX6_useOf 4 (some .int)) d [rv G 10 (some b), rv G 1 (some k), rv G 7 (some Y)] σ (rI (nI (uIx (addU U r) r - n0)) (fun s => Fl (pLu b) σ s ∧ LUt s b (addU U r) ∧ Shp s)) := sorry
end SPX
