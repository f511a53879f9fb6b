/-! THE MODEL's MACHINE: calls by a use. -/
section CBY
variable {l : Launch} {G : Gl} {d : Nat} {τ σ s t : Sg} {P : Pg} {M : MSt} {a fr ct tt ft k u : Nat} {S : StaF} {C : CalF} {as : List Int32}
theorem OvU.q (hW : WQ τ σ P) (h : FQm σ s) : OvU τ s 0 := sorry
theorem wSelc_36 {m r : Nat} : wSelc τ 0 m r = 6 ∨ wSelc τ 0 m r = 3 := sorry
/-- a static method -/
theorem sp_callT (hG : GOK G) (hd : 150 ≤ d) (hW : WQ τ σ P) (hI : MInv τ M) (hC : CaK τ C) (hS : StK τ S) (hSt : StM l G (d - 1) τ σ S a) (hCs : CalM l G (d - 1) τ σ C a) (hk : KHw τ M k) (hu : u < nUk τ k) (h3 : uSo τ k u = 9 ∨ uSo τ k u = 10) (ha : vOkL τ M (uPm τ k u) as) {self : Int32} (hb : BdQ a ct tt ft) (hfr : fr + as.length ≤ ct) (hcl : ∀ (i : Nat) (v : Int32), as[i]? = some v → s.I 2254 0 (fr + i) = v) (h : MQst τ σ M a 0 ct tt ft s) : CT l G yX11_callBy (ws_ yX11_callBy cX11_callBy 9 (some .int)) d [.ref (G.adr 11 0), .int (nI (muA τ k u)), .int self, .int (nI fr)] s (oQf τ σ (rzT τ C S k u as M) a ct tt ft fr s) := sorry
/-- a method of an object -/
theorem sp_callV (hG : GOK G) (hd : 150 ≤ d) (hW : WQ τ σ P) (hI : MInv τ M) (hC : CaK τ C) (hCs : CalM l G (d - 1) τ σ C a) (hk : KHw τ M k) (hu : u < nUk τ k) (h3 : uSo τ k u = 7 ∨ uSo τ k u = 8) {v : Int32} (ho : vOk τ M (uTi τ k u) v) (hn : ¬ uTi τ k u = 1) (ha : vOkL τ M (uPm τ k u) as) (hb : BdQ a fr tt ft) (hcl : ∀ (i : Nat) (w : Int32), as[i]? = some w → s.I 2254 0 (fr + i) = w) (h : MQst τ σ M a 0 ct tt ft s) : CT l G yX11_callBy (ws_ yX11_callBy cX11_callBy 9 (some .int)) d [.ref (G.adr 11 0), .int (nI (muA τ k u)), .int v, .int (nI fr)] s (oQf τ σ (rzV τ C k u v as M) a ct tt ft fr s) := sorry
end CBY
