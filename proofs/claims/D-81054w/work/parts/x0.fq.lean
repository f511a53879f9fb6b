/-! The invariant stays while the model asks or runs. -/
section XFQ
variable {s t : Sg} {P : Pg} {M : MSt} {b k n : Nat}
theorem CoB.ev (hk : k < 194) (hs : Shp s) (hH : HEv s t k k) (hKq : KEq s t k) (em : ∀ j, j < 33 → MEv s t (33 * k + j) (33 * k + j)) (hZ : ZEv s t (cM k) (cM k)) (hQ : ∀ j, j < 33 → QEv s t (34 * cM k + j) (34 * cM k + j)) (e41 : t.I 2141 0 (cM k) = s.I 2141 0 (cM k)) (e17 : t.I 1117 k 0 = s.I 1117 k 0) (w : CoB s k) : CoB t k := sorry
/-- LinkHouse's columns -/
def pMo (c _i : Nat) : Bool := decide (2100 ≤ c)
theorem pMo_no {c i : Nat} (h : c < 2100) : pMo c i = false := sorry
theorem FQm.lh (h : FQm s t) : Fl pMo s t := sorry
theorem Fl.sml (h : Fl pMo s t) : SmL b s t := sorry
theorem FQm.cell (h : FQm s t) {c j : Nat} (hc : bKc c = true) (hj : j < 7343) (h56 : c = 2156 → j < 29372) : t.I c 0 j = s.I c 0 j ∧ t.B c 0 j = s.B c 0 j ∧ t.L c 0 j = s.L c 0 j := sorry
theorem FQm.big (h : FQm s t) {c j : Nat} (hc : bKc c = true) (h1 : ¬ c = 2151 ∧ ¬ c = 2153 ∧ ¬ c = 2155) (h56 : c = 2156 → j < 29372) : t.I c 0 j = s.I c 0 j ∧ t.B c 0 j = s.B c 0 j ∧ t.L c 0 j = s.L c 0 j := sorry
theorem bsz_408 {c : Nat} (h : c = 2151 ∨ c = 2153 ∨ c = 2155) : bsz c = 408 := sorry
theorem FQm.smm (h : FQm s t) (hb : b < 16) : SmM b s t := sorry
theorem CoB.fq (h : FQm s t) (hs : Shp s) (hk : k = 192 ∨ k = 193) (w : CoB s k) : CoB t k := sorry
/-- THE WORLD's part stays while the model asks or runs -/
theorem WrI.fq (h : WrI s P) (hF : FQm s t) : WrI t P := sorry
end XFQ
