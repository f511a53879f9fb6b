/-! LinkHouse's uses: two uses are one (the method). -/
section SPX
variable {l : Launch} {G : Gl} {d : Nat} {σ : Sg}
theorem sp_X7_isOne (hG : GOK G) (hd : 4 ≤ d) (hS : Shp σ) {X Y : Nat} {r q : Us} (hX : X < cnt 7) (hY : Y < cnt 7) (uX : LUr σ X r) (uY : LUr σ Y q) (hr : UOK r) (hq : UOK q) (cr : UCn r) (cq : UCn q) (hk : r.1 = q.1) : CT l G yX7_isOne (ws_ yX7_isOne cX7_isOne 2 (some .boolean)) d [.ref (G.adr 7 X), .ref (G.adr 7 Y)] σ (rZ (r == q) (fun s => s = σ)) := sorry
end SPX
