/-! What a use meets: which member, where it was looked for. -/
def MfK (σ : Sg) (v m : Nat) : Prop := LivU σ (wKs σ 0) m ∧ ((v = 2 ∧ σ.I 1200 m 0 = 2) ∨ (3 ≤ v ∧ v ≤ 6 ∧ σ.I 1200 m 0 = 0) ∨ (7 ≤ v ∧ v ≤ 12 ∧ σ.I 1200 m 0 = 1))
def RsG (σ : Sg) (v : Nat) (r : MT) : Prop := (∀ m, r.2.2.1 = some m → MfK σ v m) ∧ (∀ m, r.2.2.2.1 = some m → MfK σ v m) ∧ r.2.2.2.2.length ≤ 130 ∧ ∀ x, x ∈ r.2.2.2.2 → x ∈ wKs σ 0
section LOK9
variable {σ : Sg} {v u b c : Nat} {st : LSt}
theorem RsG.nil {a : Int32} : RsG σ v (a, st, none, none, []) := sorry
theorem wUpF_in : ∀ (n : Nat) (o : Option Nat) (x : Nat), (∀ k, o = some k → k ∈ wKs σ 0) → x ∈ wUpF σ n o → x ∈ wKs σ 0 := sorry
theorem wUpF_ln : ∀ (n : Nat) (o : Option Nat), (wUpF σ n o).length ≤ n := sorry
theorem lkU_sub {as : Nat} : ∀ (L : List Nat) (x : Nat), x ∈ (lkU σ as L).1 → x ∈ L := sorry
theorem clF_k (hW : WOK σ 0) (hc : c ∈ wKs σ 0) {as : Nat} : (∀ m, (clF σ as c).1 = some m → LivU σ (wKs σ 0) m ∧ σ.I 1200 m 0 = 1) ∧ (clF σ as c).2.length ≤ 130 ∧ ∀ x, x ∈ (clF σ as c).2 → x ∈ wKs σ 0 := sorry
theorem abR_k (hW : WOK σ 0) (hc : c ∈ wKs σ 0) {as m : Nat} (h : (abR σ as c).2 = some m) : LivU σ (wKs σ 0) m ∧ σ.I 1200 m 0 = 1 := sorry
theorem rs3_g (hW : WOK σ 0) (hc : c ∈ wKs σ 0) (ev : σ.I 1700 u 0 = nI v) (h1 : 1 ≤ v) (h2 : v ≤ 15) : RsG σ v (rs3 σ u b c st) := sorry
theorem rsR_g (hW : WOK σ 0) (ev : σ.I 1700 u 0 = nI v) (h1 : 1 ≤ v) (h2 : v ≤ 19) : RsG σ v (rsR σ u b st) := sorry
end LOK9
