/-! The model reads an E: product, sum, expression. -/
section SPX
variable {l : Launch} {G : Gl}
def ME0 (l : Launch) (G : Gl) (B : Nat → Nat) (n f : Nat) : Prop := ∀ (d : Nat) (σ : Sg) (s w e t : Nat), PS σ s B n w e (.ok t) → e ≤ t → w ≤ 12 → 12 * (701 - t) + 5 ≤ f → 10 * (13 - w) + 20 ≤ d → CT l G yX11_expression (ws_ yX11_expression cX11_expression 3 (some .int)) d [.ref (G.adr 11 0)] σ (oEm σ s B n w e (.ok t) (pp (yTok B n) f 0 t w nl) 0 false)
def ME1 (l : Launch) (G : Gl) (B : Nat → Nat) (n f : Nat) : Prop := ∀ (d : Nat) (σ : Sg) (s w e t : Nat), PS σ s B n w e (.ok t) → e ≤ t → w ≤ 12 → 12 * (701 - t) + 4 ≤ f → 10 * (13 - w) + 26 ≤ d → CT l G yX11_sum (ws_ yX11_sum cX11_sum 3 (some .int)) d [.ref (G.adr 11 0)] σ (oEm σ s B n w e (.ok t) (pp (yTok B n) f 1 t w nl) 2 false)
def ME2 (l : Launch) (G : Gl) (B : Nat → Nat) (n f : Nat) : Prop := ∀ (d : Nat) (σ : Sg) (s w e t : Nat), PS σ s B n w e (.ok t) → e ≤ t → w ≤ 12 → 12 * (701 - t) + 3 ≤ f → 10 * (13 - w) + 25 ≤ d → CT l G yX11_product (ws_ yX11_product cX11_product 3 (some .int)) d [.ref (G.adr 11 0)] σ (oEm σ s B n w e (.ok t) (pp (yTok B n) f 2 t w nl) 2 false)
def ME3 (l : Launch) (G : Gl) (B : Nat → Nat) (n f : Nat) : Prop := ∀ (d : Nat) (σ : Sg) (s w e t : Nat), PS σ s B n w e (.ok t) → e ≤ t → w ≤ 12 → 12 * (701 - t) + 2 ≤ f → 10 * (13 - w) + 24 ≤ d → CT l G yX11_unit (ws_ yX11_unit cX11_unit 6 (some .int)) d [.ref (G.adr 11 0)] σ (oEm σ s B n w e (.ok t) (pp (yTok B n) f 3 t w nl) 2 false)
def ME4 (l : Launch) (G : Gl) (B : Nat → Nat) (n f : Nat) : Prop := ∀ (d : Nat) (σ : Sg) (s w e t : Nat), PS σ s B n w e (.ok t) → e ≤ t → w ≤ 12 → cBe (yTok B n t).1 = true → 12 * (701 - t) + 1 ≤ f → 10 * (13 - w) + 23 ≤ d → CT l G yX11_first (ws_ yX11_first cX11_first 7 (some .int)) d [.ref (G.adr 11 0)] σ (oEm σ s B n w e (.ok t) (pp (yTok B n) f 4 t w nl) 1 false)
def ME5 (l : Launch) (G : Gl) (B : Nat → Nat) (n f : Nat) : Prop := ∀ (d : Nat) (σ : Sg) (s w e t : Nat), PS σ s B n w e (.ok t) → e ≤ t → w ≤ 12 → 12 * (701 - t) + 1 ≤ f → 10 * (13 - w) + 21 ≤ d → CT l G yX11_arguments (ws_ yX11_arguments cX11_arguments 5 (some .int)) d [.ref (G.adr 11 0)] σ (oEm σ s B n w e (.ok t) (pp (yTok B n) f 5 t w nl) 0 true)
theorem bnd2_ok {rc : PR (Tr × Nat)} {t : Nat} (h : bnd rc (fun a => (.ok a.2 : PR Nat)) = .ok t) : ∃ a, rc = .ok a ∧ a.2 = t := sorry
theorem mx_2 (hG : GOK G) (hZ : SOK G) {B : Nat → Nat} {n : Nat} (f : Nat) (h3 : ∀ f', f' < f → ME3 l G B n f') : ME2 l G B n f := sorry
theorem mx_1 (hG : GOK G) (hZ : SOK G) {B : Nat → Nat} {n : Nat} (f : Nat) (h2 : ∀ f', f' < f → ME2 l G B n f') : ME1 l G B n f := sorry
theorem PS.w' {σ : Sg} {s n w e w' : Nat} {B : Nat → Nat} {r : PR Nat} (h : PS σ s B n w e r) : PS (sI σ 2189 0 0 (nI w')) s B n w' e r := sorry
/-- out of what was read one within: the depth is back, no node if there is a fault -/
theorem oEv.close {σ st : Sg} {s n w e t k k' : Nat} {B : Nat → Nat} {r : PR (Tr × Nat)} {v : Int32} (h : oEv (sI σ 2189 0 0 (nI (w + 1))) s B n (w + 1) e (.ok t) r k false v st) (hw : w ≤ 12) (hk : k ≤ 12 + k') (v' : Int32) (hv : v' = v ∨ (v' = -2 ∧ ¬ st.I 2120 0 0 = nI 0)) : oEv σ s B n w e (.ok t) r k' false v' (sI st 2189 0 0 (nI w)) := sorry
theorem mx_0 (hG : GOK G) (hZ : SOK G) {B : Nat → Nat} {n : Nat} (f : Nat) (h1 : ∀ f', f' < f → ME1 l G B n f') : ME0 l G B n f := sorry
end SPX
