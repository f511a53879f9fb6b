/-! Judging, LinkHouse: heads. -/
/-- what a parent must be -/
def jPaC (σ : Sg) (k : Nat) : Bool := !σ.B 1102 k 0 && (match wFind σ 1 (σ.L 1107 k 0) with
  | none => false
  | some p => !σ.B 1102 p 0 && (kOpn σ p k && (!σ.B 1104 p 0 && kLet σ p (σ.L 1100 k 0))))
def jPa (σ : Sg) (k : Nat) : PR Unit := if σ.B 1106 k 0 = true then ckP (jPaC σ k) 5 (tkN (σ.I 1125 k 0)) else .ok ()
/-- what a face must be -/
def jFaC (σ : Sg) (k i : Nat) : Bool := (match wFind σ 1 (σ.L 1108 k i) with
  | none => false
  | some f => σ.B 1102 f 0 && (kOpn σ f k && (kLet σ f (σ.L 1100 k 0) && !fany (fun j => decide (σ.L 1108 k j = σ.L 1108 k i)) i 0)))
def jFa (σ : Sg) (k i : Nat) : PR Unit := ckP (jFaC σ k i) 5 (tkN (σ.I 1125 k (1 + i)))
def jHoC (σ : Sg) (b k : Nat) : Bool := (match jOfT σ b (σ.L 1110 k 0) with
  | none => false
  | some h => decide (σ.I 1101 h 0 = σ.I 1101 k 0) && kWit σ h (σ.L 1100 k 0))
def jHo (σ : Sg) (b k : Nat) : PR Unit := if σ.L 1110 k 0 = 0 then .ok () else ckP (jHoC σ b k) 5 (tkN (σ.I 1125 k 5))
def jWiC (σ : Sg) (b k i : Nat) : Bool := (match jOfT σ b (σ.L 1111 k i) with
  | none => false
  | some c => decide (σ.L 1110 c 0 = σ.L 1100 k 0))
def jWi (σ : Sg) (b k i : Nat) : PR Unit := ckP (jWiC σ b k i) 5 (tkN (σ.I 1125 k (6 + i)))
def jOn (σ : Sg) (b k i : Nat) : PR Unit := ckP (jOfT σ b (σ.L 1113 k i)).isSome 5 (tkN (σ.I 1125 k (14 + i)))
def jNmC (σ : Sg) (k : Nat) : Bool := decide (wFind σ 1 (σ.L 1100 k 0) = some k) && !decide (σ.I 1101 k 0 = 26)
/-- the head of class k -/
def jHd (σ : Sg) (b k : Nat) : PR Unit := bnd (ckP (jNmC σ k) 4 (tkN (σ.I 1124 k 0))) fun _ => bnd (jPa σ k) fun _ => bnd (jFor (jFa σ k) (nFc σ k) 0) fun _ => bnd (jHo σ b k) fun _ => bnd (jFor (jWi σ b k) (nWi σ k) 0) fun _ => jFor (jOn σ b k) (nOn σ k) 0
theorem jPa_st {σ : Sg} {k : Nat} : jPa (stat σ) k = jPa σ k := sorry
theorem jFa_st {σ : Sg} {k : Nat} : jFa (stat σ) k = jFa σ k := sorry
theorem jHo_st {σ : Sg} {b k : Nat} : jHo (stat σ) b k = jHo σ b k := sorry
theorem jWi_st {σ : Sg} {b k : Nat} : jWi (stat σ) b k = jWi σ b k := sorry
theorem jOn_st {σ : Sg} {b k : Nat} : jOn (stat σ) b k = jOn σ b k := sorry
theorem jNmC_st {σ : Sg} {k : Nat} : jNmC (stat σ) k = jNmC σ k := sorry
theorem jHd_st {σ : Sg} {b k : Nat} : jHd (stat σ) b k = jHd σ b k := sorry
theorem jHd_e {σ s : Sg} {b k : Nat} (h : stat s = stat σ) : jHd s b k = jHd σ b k := sorry
/-- a token of a column was read -/
def TkB (x : Int32) (r : Nat) : Prop := ∃ t, t < r ∧ x = nI t
theorem TkB.n {x : Int32} {r : Nat} (h : TkB x r) (hr : r ≤ 702) : tkN x < r ∧ x = nI (tkN x) := sorry
/-- the tokens of a head were read -/
def HdT (σ : Sg) (k r : Nat) : Prop := TkB (σ.I 1124 k 0) r ∧ (σ.B 1106 k 0 = true → TkB (σ.I 1125 k 0) r) ∧ (∀ i, i < nFc σ k → TkB (σ.I 1125 k (1 + i)) r) ∧ (¬ σ.L 1110 k 0 = 0 → TkB (σ.I 1125 k 5) r) ∧ (∀ i, i < nWi σ k → TkB (σ.I 1125 k (6 + i)) r) ∧ ∀ i, i < nOn σ k → TkB (σ.I 1125 k (14 + i)) r
theorem HdT_e {σ s : Sg} {k r : Nat} (h : stat s = stat σ) (q : HdT σ k r) : HdT s k r := sorry
section SPX
variable {l : Launch} {G : Gl} {d : Nat}
theorem sp_X6_head (hG : GOK G) {σ : Sg} {b n r k : Nat} {B : Nat → Nat} (hd : 4 ≤ d) (hL : LRd σ b B n r) (hr : r ≤ 702) (h602 : σ.R 1602 0 0 = some b) (hW : WOK σ 1) (hS : Shp σ) (hk : k < 194) (hT : HdT σ k r) : CT l G yX6_head (ws_ yX6_head cX6_head 6 none) d [.ref (G.adr 6 0), rv G 1 (some k)] σ (oJ G b (yTok B n) σ (jHd σ b k) (fun _ o s => o = .returned none ∧ s = sR σ 1603 0 0 (some k))) := sorry
end SPX
