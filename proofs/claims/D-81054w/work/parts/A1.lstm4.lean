/-! LinkHouse reads an S: the whole. -/
section SPX
variable {l : Launch} {G : Gl}
/-- what an S begins with -/
abbrev cBs (x : Nat) : Bool := x == 217 || x == 218 || x == 220 || x == 221 || x == 222 || x == 223 || x == 225 || cBe x
theorem bnd_r {α : Type} {r : PR α} : bnd r .ok = r := sorry
theorem StE.up {b n t w m : Nat} {B : Nat → Nat} {σ s u : Sg} {z : Tr × Nat} {v : Int32} (h : StE b B n s t w m z v u) (hF : Fl (pT b) σ s) (hS : ∀ j, j < m → NdS σ s j) : StE b B n σ t w m z v u := sorry
theorem lx_20 (hG : GOK G) {b n : Nat} {B : Nat → Nat} (f : Nat) (hX : ∀ f', f' < f → SX20 l G b B n f') (hXb : ∀ f', f' < f → SX21 l G b B n f') : SX20 l G b B n f := sorry
/-- LinkHouse reads every S and every block as the grammar says -/
theorem lx_stm (hG : GOK G) {b n : Nat} {B : Nat → Nat} : ∀ f, SX20 l G b B n f ∧ SX21 l G b B n f := sorry
end SPX
