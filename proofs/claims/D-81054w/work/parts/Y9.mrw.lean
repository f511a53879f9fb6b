/-! The model's classes and LinkHouse's, from phase to phase. -/
/-- row m is the same in s and t, as far as the model knows it -/
def MRw (t s : Sg) (m : Nat) : Prop := (∀ c, iC c = true → c ≤ 1213 → s.I c m 0 = t.I c m 0) ∧ (∀ c, bC c = true → s.B c m 0 = t.B c m 0) ∧ (∀ c, lC c = true → s.L c m 0 = t.L c m 0) ∧ ∀ i, i < nPa t m → s.L 1209 m i = t.L 1209 m i
theorem MEq.rw {t s : Sg} {m : Nat} (h : MEq t s m) : MRw t s m := sorry
theorem MM.mrw {t s u : Sg} {m q : Nat} (h : MRw t s m) (k : MM t u m q) : MM s u m q := sorry
theorem MKm.mrw {t s u : Sg} {c : Nat} (h17 : s.I 1117 c 0 = t.I 1117 c 0) (h : ∀ j, j < nMe t c → MRw t s (33 * c + j)) (k : MKm t u c) : MKm s u c := sorry
theorem MKm.keq {t s u : Sg} {c : Nat} (h : KEq t s c) (hn : nMe t c ≤ 33) (k : MKm t u c) : MKm s u c := sorry
/-- a class with its maker and bridges: the formal snapshot and LinkHouse's state agree -/
theorem xS_rw {τ s : Sg} {b nk : Nat} {Bf : Nat → BrL} {c : Nat} {Bs : BrL} (hc : 12 * b ≤ c ∧ c < 12 * b + nk) (hc94 : c < 194) (h20 : nMe τ c ≤ 20) (hE1 : ExM τ (xS τ b nk Bf)) (hE2 : ExM τ s) (hD : Dn τ s c Bs) (hB : Bf c = Bs) (hn : nMe (xS τ b nk Bf) c = tmT τ c + Bs.length) : ∀ j, j < nMe (xS τ b nk Bf) c → MRw (xS τ b nk Bf) s (33 * c + j) := sorry
