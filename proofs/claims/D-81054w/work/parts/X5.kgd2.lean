/-! Classes in order: frames; what bridges are. -/
/-- the rows of class c that are asked are the same -/
def KEq (τ s : Sg) (c : Nat) : Prop := (∀ x j, 1099 < x → x ≤ 1117 → s.I x c j = τ.I x c j ∧ s.B x c j = τ.B x c j ∧ s.L x c j = τ.L x c j) ∧ ∀ i, i < 33 → ∀ x j, 1199 < x → x ≤ 1213 ∨ x = 1222 → s.I x (33 * c + i) j = τ.I x (33 * c + i) j ∧ s.B x (33 * c + i) j = τ.B x (33 * c + i) j ∧ s.L x (33 * c + i) j = τ.L x (33 * c + i) j ∧ s.R x (33 * c + i) j = τ.R x (33 * c + i) j
theorem KEq.fl {τ s : Sg} {c : Nat} {p : Nat → Nat → Bool} (h : Fl p τ s) (h1 : ∀ x, 1099 < x → x ≤ 1117 → p x c = false) (h2 : ∀ i, i < 33 → ∀ x, 1199 < x → x ≤ 1222 → p x (33 * c + i) = false) : KEq τ s c := sorry
theorem KEq.me {τ s : Sg} {c : Nat} (h : KEq τ s c) : nMe s c = nMe τ c := sorry
/-- rows a of τ and s are the same -/
def MEq (τ s : Sg) (a : Nat) : Prop := ∀ x j, 1199 < x → x ≤ 1213 ∨ x = 1222 → s.I x a j = τ.I x a j ∧ s.B x a j = τ.B x a j ∧ s.L x a j = τ.L x a j ∧ s.R x a j = τ.R x a j
section ME
variable {τ s : Sg} {a o : Nat}
theorem MEq.i (h : MEq τ s a) {x j : Nat} (h1 : 1199 < x) (h2 : x ≤ 1213 ∨ x = 1222) : s.I x a j = τ.I x a j := sorry
theorem MEq.b (h : MEq τ s a) {x j : Nat} (h1 : 1199 < x) (h2 : x ≤ 1213 ∨ x = 1222) : s.B x a j = τ.B x a j := sorry
theorem MEq.l (h : MEq τ s a) {x j : Nat} (h1 : 1199 < x) (h2 : x ≤ 1213 ∨ x = 1222) : s.L x a j = τ.L x a j := sorry
theorem MEq.r (h : MEq τ s a) {x j : Nat} (h1 : 1199 < x) (h2 : x ≤ 1213 ∨ x = 1222) : s.R x a j = τ.R x a j := sorry
theorem MEq.alk (h : MEq τ s a) (k : MEq τ s o) : mAlk s a o = mAlk τ a o := sorry
theorem MEq.one (h : MEq τ s a) (k : MEq τ s o) : mOne s a o = mOne τ a o := sorry
theorem MEq.kgm (h : MEq τ s a) (k : KGm τ a) : KGm s a := sorry
end ME
theorem KGd.eq {τ s : Sg} {c : Nat} (h : KEq τ s c) (hn : nMe τ c ≤ 33) (k : KGd τ c) : KGd s c := sorry
theorem ffirst_min {p : Nat → Bool} : ∀ (m k i j : Nat), ffirst p m k = some i → k ≤ j → p j = true → i ≤ j := sorry
section EX
variable {τ σ : Sg} {c : Nat}
theorem ExM.meq (h : ExM τ σ) (hc : c < 194) {j : Nat} (hj : j < nMe τ c) : MEq τ σ (33 * c + j) := sorry
theorem ExM.told (h : ExM τ σ) (hc : c < 194) {j : Nat} (hj : j < nMe σ c) (ho : σ.I 1200 (33 * c + j) 0 = 1) (hb : σ.B 1206 (33 * c + j) 0 = false) : j < nMe τ c := sorry
theorem UqM.ex (h : ExM τ σ) (hc : c < 194) (hU : UqM τ c) : UqM σ c := sorry
theorem KSf.ex (h : ExM τ σ) (hc : c < 194) (hU : UqM τ c) (hb : ∀ j, j < nMe τ c → τ.B 1206 (33 * c + j) 0 = false) : KSf σ c := sorry
end EX
/-! what bridges are -/
section BRQ
variable {τ : Sg} {k : Nat} {P : Nat × Int64 → Prop}
theorem brO_Q {m o : Nat} {Bs Bs' : BrL} (h : brO τ k m Bs o = .ok Bs') (hB : ∀ p, p ∈ Bs → P p) (ho : τ.B 1203 o 0 = false → ¬ τ.L 1207 o 0 = τ.L 1207 m 0 → P (m, τ.L 1207 o 0)) : ∀ p, p ∈ Bs' → P p := sorry
theorem brF_Q {m : Nat} : ∀ (xs : List Nat) (Bs Bs' : BrL), brF τ k m xs Bs = .ok Bs' → (∀ p, p ∈ Bs → P p) → (∀ o, o ∈ xs → τ.B 1203 o 0 = false → ¬ τ.L 1207 o 0 = τ.L 1207 m 0 → P (m, τ.L 1207 o 0)) → ∀ p, p ∈ Bs' → P p := sorry
theorem brA_Q : ∀ (n j : Nat) (Bs Bs' : BrL), brA τ k n j Bs = .ok Bs' → (∀ i o, j ≤ i → i < j + n → brQ τ (33 * k + i) = true → o ∈ ((jUps τ 1 62 (wPar τ 1 k)).flatMap (abC τ k (33 * k + i)) ++ (wAF τ 1 k).flatMap (abC τ k (33 * k + i))) → τ.B 1203 o 0 = false → ¬ τ.L 1207 o 0 = τ.L 1207 (33 * k + i) 0 → P (33 * k + i, τ.L 1207 o 0)) → (∀ p, p ∈ Bs → P p) → ∀ p, p ∈ Bs' → P p := sorry
end BRQ
/-- a method that stands against nothing: the types of its bridges -/
theorem jAv_ty {τ : Sg} {k i o : Nat} (hJ : jAv τ k (33 * k + i) = .ok ()) (hq : brQ τ (33 * k + i) = true) (ho : o ∈ ((jUps τ 1 62 (wPar τ 1 k)).flatMap (abC τ k (33 * k + i)) ++ (wAF τ 1 k).flatMap (abC τ k (33 * k + i)))) (h3 : τ.B 1203 o 0 = false) (hne : ¬ τ.L 1207 o 0 = τ.L 1207 (33 * k + i) 0) (hm : TyOK (τ.L 1207 (33 * k + i) 0) ∧ ¬ τ.L 1207 (33 * k + i) 0 = 2) (hoT : TyOK (τ.L 1207 o 0) ∧ ¬ τ.L 1207 o 0 = 2) : TyC (τ.L 1207 o 0) ∧ TyC (τ.L 1207 (33 * k + i) 0) := sorry
