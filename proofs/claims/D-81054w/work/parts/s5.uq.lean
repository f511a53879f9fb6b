/-! A made build: no method twice, no maker twice; what is bare. -/
def NdB (τ : Sg) (Bs : BrL) : Prop := (∀ (x y : Nat) (p : Nat × Int64), Bs[x]? = some p → Bs[y]? = some p → x = y) ∧ ∀ p, p ∈ Bs → ¬ p.2 = τ.L 1207 p.1 0
section NDB
variable {τ : Sg} {k m : Nat} {Bs Bs' : BrL}
theorem NdB.add (h : NdB τ Bs) {q : Nat × Int64} (hq : ¬ q ∈ Bs) (ht : ¬ q.2 = τ.L 1207 q.1 0) : NdB τ (Bs ++ [q]) := sorry
theorem brO_nd {o : Nat} (h : brO τ k m Bs o = .ok Bs') (hn : NdB τ Bs) : NdB τ Bs' := sorry
theorem brF_nd : ∀ (os : List Nat) (Bs : BrL), brF τ k m os Bs = .ok Bs' → NdB τ Bs → NdB τ Bs' := sorry
theorem brN_nd (h : brN τ k m Bs = .ok Bs') (hn : NdB τ Bs) : NdB τ Bs' := sorry
theorem brA_nd : ∀ (n j : Nat) (Bs : BrL), brA τ k n j Bs = .ok Bs' → NdB τ Bs → NdB τ Bs' := sorry
theorem mAlk_tn {a b c : Nat} (h : mAlk τ a b = true) (g : mAlk τ b c = true) : mAlk τ a c = true := sorry
theorem mOne_al {a b : Nat} (h : mOne τ a b = true) : mAlk τ a b = true ∧ τ.L 1207 a 0 = τ.L 1207 b 0 := sorry
end NDB
section MUQ
variable {τ0 τ1 τ2 s u : Sg} {B : Nat → Nat} {n L r b : Nat} {cs : List CRc} {P : Pg} {i j : Nat}
/-- a member of a made class: told, the given maker, or a bridge -/
theorem Ph2.kind (h : Ph2 τ0 τ1 τ2 B n L r b cs) (hi : i < cs.length) : ∃ Bs, NdB τ1 Bs ∧ ∀ j, j < nMe τ2 (12 * b + i) →
    (j < nMe τ1 (12 * b + i) ∧ τ2.B 1206 (33 * (12 * b + i) + j) 0 = false) ∨ (j = nMe τ1 (12 * b + i) ∧ needM τ1 (12 * b + i) = true ∧ τ2.I 1200 (33 * (12 * b + i) + j) 0 = 2 ∧ τ2.B 1206 (33 * (12 * b + i) + j) 0 = false) ∨
    ∃ x p j1, Bs[x]? = some p ∧ j = tmT τ1 (12 * b + i) + x ∧ p.1 = 33 * (12 * b + i) + j1 ∧ j1 < nMe τ1 (12 * b + i) ∧ mAlk τ2 (33 * (12 * b + i) + j1) (33 * (12 * b + i) + j) = true ∧ τ2.L 1207 (33 * (12 * b + i) + j) 0 = p.2 ∧ τ2.B 1206 (33 * (12 * b + i) + j) 0 = true ∧ τ2.B 1205 (33 * (12 * b + i) + j) 0 = false := sorry
theorem Ph2.uqk (h : Ph2 τ0 τ1 τ2 B n L r b cs) (hi : i < cs.length) : UqK τ2 (12 * b + i) := sorry
/-- what is bare has an object, and is no own one -/
theorem Ph2.bak (h : Ph2 τ0 τ1 τ2 B n L r b cs) (hi : i < cs.length) (hj : j < nMe τ2 (12 * b + i)) : BaK τ2 (33 * (12 * b + i) + j) := sorry
end MUQ
