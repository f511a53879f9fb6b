/-! LinkHouse: a member becomes another. -/
def pMrw (m c i : Nat) : Bool := decide (1199 < c ∧ c ≤ 1222 ∧ i = m)
theorem pMrw_iff {m c i : Nat} : pMrw m c i = true ↔ (1199 < c ∧ c ≤ 1222 ∧ i = m) := sorry
theorem pMrw_no {m c i : Nat} (h : ¬ (1199 < c ∧ c ≤ 1222 ∧ i = m)) : pMrw m c i = false := sorry
/-- the member i of s is the member k of σ -/
def CpM (σ : Sg) (k : Nat) (s : Sg) (i : Nat) : Prop := s.I 1200 i 0 = σ.I 1200 k 0 ∧ s.L 1201 i 0 = σ.L 1201 k 0 ∧ s.B 1203 i 0 = σ.B 1203 k 0 ∧ s.L 1207 i 0 = σ.L 1207 k 0 ∧ s.I 1208 i 0 = σ.I 1208 k 0 ∧ (∀ j, j < 4 → s.L 1209 i j = σ.L 1209 k j) ∧ s.I 1213 i 0 = σ.I 1213 k 0
section SPX
variable {l : Launch} {G : Gl} {d : Nat} {σ : Sg}
theorem sp_X2_begin (hG : GOK G) {i : Nat} (hd : 1 ≤ d) (hi : i < cnt 2) : CT l G yX2_begin (ws_ yX2_begin cX2_begin 2 none) d [.ref (G.adr 2 i), rv G 1 none] σ (rV (fun s => Fl (pMrw i) σ s ∧ s.I 1208 i 0 = 0)) := sorry
theorem sp_X2_become (hG : GOK G) {i k : Nat} (hd : 2 ≤ d) (hi : i < cnt 2) (hk : k < cnt 2) (hne : ¬ i = k) : CT l G yX2_become (ws_ yX2_become cX2_become 4 none) d [.ref (G.adr 2 i), rv G 2 (some k), rv G 1 none] σ (rV (fun s => Fl (pMrw i) σ s ∧ CpM σ k s i)) := sorry
end SPX
