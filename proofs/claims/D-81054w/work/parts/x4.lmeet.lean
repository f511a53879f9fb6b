/-! THE HOUSE: meet (LinkHouse). -/
def pMt (c i : Nat) : Bool := pM 0 c i || rg 1020 1024 c
theorem pMt_no {c i : Nat} (h : (c ≤ 1020 ∨ 1024 < c) ∧ (c ≤ 1303 ∨ 1313 < c) ∧ (c ≤ 1800 ∨ 1807 < c ∨ ¬ i = 0)) : pMt c i = false := sorry
theorem pMt_y {c i : Nat} (h : 1020 < c ∧ c ≤ 1024) : pMt c i = true := sorry
section LMT
variable {l : Launch} {G : Gl} {d n : Nat} {s t : Sg} {P : Pg}
theorem hMt_0 {x1 x2 x3 : Int32} (h : 0 ≤ hMt s x1 x2 x3) : hMt s x1 x2 x3 = 0 ∧ ∃ u, hU s x1 x2 x3 = some u ∧ s.I 1008 0 x1.toNatClampNeg = x2 ∧ ¬ s.I 1128 (uBy s u) 0 = -2 := sorry
/-- what LinkHouse leaves -/
def MtL (s t : Sg) (x1 x2 x3 : Int32) (o : Outcome) : Prop := (∃ u, hU s x1 x2 x3 = some u ∧ hMt s x1 x2 x3 = 0 ∧ ¬ s.I 1128 (uBy s u) 0 = -2 ∧ o = .returned (some (.int (hRs s u).1)) ∧ Fl pMt s t ∧ MtS s t u (hRs s u)) ∨ (¬ 0 ≤ hMt s x1 x2 x3 ∧ o = .returned (some (.int (hMt s x1 x2 x3))) ∧ t = s)
theorem sp_X0_meet (hG : GOK G) (hd : 140 ≤ d) (h : WrI s P) (x1 x2 x3 : Int32) : CT l G yX0_meet (ws_ yX0_meet cX0_meet 8 (some .int)) d [.ref (G.adr 0 0), .int x1, .int x2, .int x3] s (fun o t => MtL s t x1 x2 x3 o) := sorry
end LMT
