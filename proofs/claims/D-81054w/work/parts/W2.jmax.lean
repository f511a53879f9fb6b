/-! Math.max (the kit's own law of it). -/
theorem room_0 {s : State} {pl : Platform} {r : Room} (h : s.hasRoom pl r = true) : s.hasRoom pl {} = true := sorry
section SPX
variable {l : Launch} {G : Gl} {d : Nat} {σ : Sg}
theorem sp_J_max {a b : Int32} : CT l G yJ_max (ws_ yJ_max cJ_max 2 (some .int)) d [.int a, .int b] σ (rI (if a < b then b else a) (fun s => s = σ)) := sorry
end SPX
