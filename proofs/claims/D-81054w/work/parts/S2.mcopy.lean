/-! The model's uses of a constant's E. -/
/-- an E of constants, judged -/
def csT (τ : Sg) : Tr → Prop
  | .leaf => False
  | .inner _ b _ x y => b.1 = 1 ∨ ((b.1 = 4 ∨ b.1 = 6) ∧ ¬ b.2.2.2.2.2.2.2.1 = 0 ∧ τ.B 1212 (mB b) 0 = true) ∨ (b.1 = 20 ∧ csT τ x) ∨ ((12 ≤ b.1 ∧ b.1 ≤ 16) ∧ csT τ x ∧ csT τ y)
/-- what laying the uses of a constant's E leaves -/
def RC (τ u s : Sg) (b k P : Nat) (U : List Us) (x : Tr) : Prop := FrU u s b 0 0 0 0 ∧ (s.I 2208 0 0 = nI P ∧ PaS u s P) ∧ MS s b k (addL U (ndE τ k x []))
section SPX
variable {l : Launch} {G : Gl} {τ : Sg} {b k : Nat} {T : Nat → Tk}
def WC (l : Launch) (G : Gl) (τ : Sg) (b k : Nat) (T : Nat → Tk) (x : Tr) : Prop := ∀ (d lo hi w a e : Nat) (v : Int32), wt x 0 w a e → gdE τ x → csT τ x → hi ≤ 1700 → 4 * ht x + 20 ≤ d → ∀ (u : Sg) (U : List Us), JU τ u b k U → MTg u b (NdA τ u T) x lo hi v → (addL U (ndE τ k x [])).length < 1800 → ∀ (P P0 N : Nat) (x1 : Int32) (Q : Outcome → Sg → Prop), u.I 2208 0 0 = nI P → P + (hi - lo) ≤ 1703 → P0 ≤ P → (∀ s, RC τ u s b k P U x → wq_X11_copies_86 l G d 0 x1 Q N (nI P0) s) → ∃ M, wq_X11_copies_7 l G d 0 x1 Q M (nI P0) v u
def SpCo (l : Launch) (G : Gl) (d : Nat) (τ : Sg) (b k : Nat) (T : Nat → Tk) (x : Tr) : Prop := ∀ (u : Sg) (lo hi w a e P : Nat) (v : Int32) (U : List Us), JU τ u b k U → MTg u b (NdA τ u T) x lo hi v → wt x 0 w a e → gdE τ x → csT τ x → hi ≤ 1700 → u.I 2208 0 0 = nI P → P + (hi - lo) ≤ 1703 → (addL U (ndE τ k x [])).length < 1800 → CT l G yX11_copies (ws_ yX11_copies cX11_copies 4 none) d [.ref (G.adr 11 0), .int v] u (rV (fun s => RC τ u s b k P U x))
theorem WC.E (hG : GOK G) {x : Tr} (h : WC l G τ b k T x) {d : Nat} (hd : 4 * ht x + 21 ≤ d) : SpCo l G d τ b k T x := sorry
theorem WC_n (hG : GOK G) {sz : Nat} {bb : Lb} {uu : Unit} {x y : Tr} (hx : 12 ≤ bb.1 → WC l G τ b k T x) (hy : 12 ≤ bb.1 ∧ bb.1 ≤ 16 → ∀ d, 4 * ht y + 21 ≤ d → SpCo l G d τ b k T y) : WC l G τ b k T (.inner sz bb uu x y) := sorry
/-- THE MODEL LAYS THE USES OF A CONSTANT'S E AS ndE SAYS -/
theorem mc_all (hG : GOK G) : ∀ (x : Tr), 1 ≤ kdO x ∧ kdO x ≤ 20 → WC l G τ b k T x := sorry
end SPX
