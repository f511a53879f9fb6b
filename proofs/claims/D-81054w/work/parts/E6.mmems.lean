/-! The model reads the members of a class, and a row of classes. -/
/-- the members from the j-th on are those of ms -/
def MsQ (u : Sg) (s : Nat) (T : Nat → Tk) (face : Bool) (cI j : Nat) (ms : List MRc) (e e2 : Nat) : Prop := ∀ k mr, ms[k]? = some mr → ∃ lo hi, e ≤ lo ∧ lo ≤ hi ∧ hi ≤ e2 ∧ MRq u s T face (cI * 34 + (j + k)) mr lo hi
theorem MsQ.fj {u u' : Sg} {s : Nat} {T : Nat → Tk} {face : Bool} {cI j : Nat} {ms : List MRc} {e e2 : Nat} {p : Nat → Nat → Bool} (hs : s < 16) (h : MsQ u s T face cI j ms e e2) (hF : FJ p u u') (hp0 : ∀ c k, k < ms.length → 2141 < c → c ≤ 2168 → ¬ (2155 < c ∧ c ≤ 2159) → p c (cI * 34 + (j + k)) = false) (hp1 : ∀ c k i, k < ms.length → 2155 < c → c ≤ 2159 → i < 4 → p c (4 * (cI * 34 + (j + k)) + i) = false) (hp2 : ∀ c i, 2169 < c → c ≤ 2188 → e ≤ i → i < e2 → p c (s * 1700 + i) = false) : MsQ u' s T face cI j ms e e2 := sorry
/-- what reading members leaves -/
def oMs (σ : Sg) (s : Nat) (B : Nat → Nat) (n e cI j : Nat) (face : Bool) (f : Nat) (r : PR Nat) (u : Sg) : Prop := ∃ e2, FJ (pRk s e cI j) σ u ∧ PS u s B n 0 e2 (bnd r fun t => bnd (pMs (yTok B n) f (22 - j) j t) fun a => .ok a.2) ∧ e ≤ e2 ∧ e2 ≤ 900 ∧ (∀ t a, r = .ok t → pMs (yTok B n) f (22 - j) j t = .ok a → e2 ≤ a.2 ∧ u.I 2141 0 cI = nI (j + a.1.length) ∧ j + a.1.length ≤ 20 ∧ MsQ u s (yTok B n) face cI j a.1 e e2) ∧ Fld u (bnd r fun t => bnd (pMs (yTok B n) f (22 - j) j t) fun a => .ok a.2)
theorem pMs_1 {T : Nat → Tk} {f j t : Nat} (hj : j ≤ 20) (hn : ¬ (T t).1 = 125) : pMs T f (22 - j) j t = bnd (pOm T f j t) fun m => bnd (pMs T f (22 - (j + 1)) (j + 1) m.2) fun z => .ok (m.1 :: z.1, z.2) := sorry
section SPX
variable {l : Launch} {G : Gl}
theorem mx_ml (hG : GOK G) (hZ : SOK G) {B : Nat → Nat} {n f d : Nat} {s cI : Nat} {face : Bool} (hd : 167 ≤ d) (hf : 12 * 701 + 7 ≤ f) (hc : cI < 216) : ∀ (fu : Nat) (σ : Sg) (r : PR Nat) (e j : Nat) (Q : Outcome → Sg → Prop), PS σ s B n 0 e r → e ≤ 900 → 1 ≤ fu → (σ.I 2120 0 0 = 0 → 2 ≤ fu) → (∀ t, r = .ok t → 25 ≤ fu + j ∧ e ≤ t ∧ σ.I 2141 0 cI = nI j ∧ j ≤ 20 ∧ (σ.I 2127 0 cI = 3 ↔ face = true)) → (∀ u, oMs σ s B n e cI j face f r u → Q (.returned none) u) → wq_X11_klass_405 l G d 0 Q fu (nI cI) σ := sorry
end SPX
