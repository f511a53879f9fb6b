/-! The invariant stays while other columns change. -/
section WFR
variable {s t u : Sg} {P : Pg} {M : MSt} {n : Nat} {p : Nat → Nat → Bool}
theorem fdS_st {σ : Sg} : ∀ (L : List Nat), fdS (stat σ) L = fdS σ L := sorry
theorem fdN_st {σ : Sg} {k : Nat} : fdN (stat σ) k = fdN σ k := sorry
theorem slA_st {σ : Sg} {m : Nat} : slA (stat σ) m = slA σ m := sorry
theorem MInv_st {σ : Sg} : MInv (stat σ) M ↔ MInv σ M := sorry
theorem MInv.st (h : stat t = stat s) (w : MInv s M) : MInv t M := sorry
theorem MMm.st (h : stat t = stat s) (w : MMm s u M) : MMm t u M := sorry
/-- the columns that THE WORLD's part asks -/
def wrC (p : Nat → Nat → Bool) : Prop := (∀ c i, bKc c = true → p c i = false) ∧ (∀ c, (1004 < c ∧ c ≤ 1008) ∨ (2106 < c ∧ c ≤ 2110) ∨ c = 2190 ∨ c = 2191 ∨ c = 1302 ∨ c = 1303 ∨ (2228 < c ∧ c ≤ 2231) → p c 0 = false) ∧ ∀ i, p 1128 i = false
theorem WrI.fl (h : WrI s P) (hF : Fl p s t) (hp : wrC p) : WrI t P := sorry
/-- the columns that the machines' part asks -/
def maC (p : Nat → Nat → Bool) : Prop := (∀ c i, sc c = true → p c i = false) ∧ (∀ c, 1800 < c → c ≤ 1803 → p c 1 = false) ∧ ∀ c, (1901 < c ∧ c ≤ 1912) ∨ (2191 < c ∧ c ≤ 2195) ∨ (2231 < c ∧ c ≤ 2236) ∨ (2247 < c ∧ c ≤ 2253) ∨ c = 2263 ∨ (2267 < c ∧ c ≤ 2271) → p c 0 = false
theorem MaI.fl (h : MaI s M n) (hF : Fl p s t) (hp : maC p) : MaI t M n := sorry
end WFR
