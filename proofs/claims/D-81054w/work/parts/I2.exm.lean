/-! PURE: makers and bridges that came are not seen when bridges are sought. -/
/-- σ is τ with members that are no methods, or bridges, behind the others -/
def ExM (τ σ : Sg) : Prop := stP sx σ = stP sx τ ∧ ∀ c, c < 194 → nMe τ c ≤ nMe σ c ∧ (∀ j, j < nMe τ c → ∀ x i, 1199 < x → x ≤ 1222 → σ.I x (33 * c + j) i = τ.I x (33 * c + j) i ∧ σ.B x (33 * c + j) i = τ.B x (33 * c + j) i ∧ σ.L x (33 * c + j) i = τ.L x (33 * c + j) i ∧ σ.R x (33 * c + j) i = τ.R x (33 * c + j) i) ∧ ∀ j, nMe τ c ≤ j → j < nMe σ c → σ.I 1200 (33 * c + j) 0 = 1 → σ.B 1206 (33 * c + j) 0 = true
theorem sx_I {σ τ : Sg} {c i j : Nat} (h : stP sx σ = stP sx τ) (hc : sx c = true) : σ.I c i j = τ.I c i j := sorry
theorem sx_B {σ τ : Sg} {c i j : Nat} (h : stP sx σ = stP sx τ) (hc : sx c = true) : σ.B c i j = τ.B c i j := sorry
section EX
variable {τ σ : Sg} {c k i j : Nat}
theorem ExM.m (h : ExM τ σ) (hc : c < 194) (hj : j < nMe τ c) : ∀ x i, 1199 < x → x ≤ 1222 → σ.I x (33 * c + j) i = τ.I x (33 * c + j) i ∧ σ.B x (33 * c + j) i = τ.B x (33 * c + j) i ∧ σ.L x (33 * c + j) i = τ.L x (33 * c + j) i ∧ σ.R x (33 * c + j) i = τ.R x (33 * c + j) i := sorry
theorem ExM.jab (h : ExM τ σ) (hc : c < 194) (hk : k < 194) (hi : i < nMe τ c) (hj : j < nMe τ k) (hof : τ.R 1222 (33 * c + i) 0 = some c) : jAb σ k (33 * c + i) (33 * k + j) = jAb τ k (33 * c + i) (33 * k + j) := sorry
theorem jAb_ex {m : Nat} (h : σ.I 1200 (33 * c + i) 0 = 1 → σ.B 1206 (33 * c + i) 0 = true) : jAb σ k (33 * c + i) m = false := sorry
theorem abF_ex {m : Nat} : ∀ (n j : Nat), (∀ i, j ≤ i → i < j + n → jAb σ k (33 * c + i) m = false) → abF σ k m c n j = [] := sorry
theorem abF_cg {m : Nat} (e : Nat) : ∀ (n j : Nat), (∀ i, j ≤ i → i < j + n → jAb σ k (33 * c + i) m = jAb τ k (33 * c + i) m) → (∀ i, j + n ≤ i → i < j + n + e → jAb σ k (33 * c + i) m = false) → abF σ k m c (n + e) j = abF τ k m c n j := sorry
theorem ExM.abc (h : ExM τ σ) (hc : c < 194) (hk : k < 194) (hj : j < nMe τ k) (hof : OfK τ c) : abC σ k (33 * k + j) c = abC τ k (33 * k + j) c := sorry
theorem ExM.ups (h : ExM τ σ) : ∀ n o, jUps σ 1 n o = jUps τ 1 n o := sorry
theorem ExM.af (h : ExM τ σ) : wAF σ 1 k = wAF τ 1 k := sorry
theorem ExM.par (h : ExM τ σ) : wPar σ 1 k = wPar τ 1 k := sorry
theorem flatMap_cg {f g : Nat → List Nat} : ∀ {xs : List Nat}, (∀ x, x ∈ xs → f x = g x) → xs.flatMap f = xs.flatMap g := sorry
/-- the type and whether it is static, of what stands above -/
theorem ExM_brF (h : ExM τ σ) (hk : k < 194) (hj : j < nMe τ k) : ∀ (xs : List Nat) (Bs : BrL), (∀ o, o ∈ xs → ∃ c i, c < 194 ∧ i < nMe τ c ∧ o = 33 * c + i) → brF σ k (33 * k + j) xs Bs = brF τ k (33 * k + j) xs Bs := sorry
end EX
