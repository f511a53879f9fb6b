/-! LinkHouse reads tokens: letters, readToken, peek. -/
/-- the value of the letters from s up to k -/
def yVl (B : Nat → Nat) (bk : Bool) (s k : Nat) : Nat := if bk = true then (if k ≤ s then 0 else yNm B (k - (s + 2)) (s + 2) (yLt (B s))) else yNm B (k - s) s 0
theorem yWs_lt : ∀ k, k < 30 → yWs.getD k 0 < 2 ^ 60 := sorry
theorem yVl_lt {B : Nat → Nat} {bk : Bool} {s k : Nat} (h : k - s ≤ (if bk = true then 10 else 9)) : yVl B bk s k < 2 ^ 54 := sorry
section SPX
variable {l : Launch} {G : Gl} {d : Nat} {σ : Sg}
set_option maxHeartbeats 1000000 in
theorem sp_X5_letters (hG : GOK G) (hd : 3 ≤ d) {b n : Nat} {B : Nat → Nat} (hX : LX σ b B n) {s r : Nat} (hs : s < n) (hr : r < 702) (h5 : σ.I 1505 0 0 = nI r) (h6 : σ.I 1506 0 0 = nI s) {bk : Bool} (c0 : 97 ≤ B s ∧ B s ≤ 122) (hk : bk = true → B (s + 1) = 46 ∧ 65 ≤ B (s + 2) ∧ B (s + 2) ≤ 90) {E : Nat} (hE : E = if bk = true then yWe B n (s + 2) else yWe B n s) : CT l G yX5_letters (ws_ yX5_letters cX5_letters 6 none) d [.ref (G.adr 5 0), .int (bI bk)] σ (oLx G σ r (if bk = true then yTc B s E else yTw B s E)) := sorry
end SPX
