/-! LinkHouse reads an E: brackets, what a unit begins with, the whole. -/
/-- a class's name behind which no point stands -/
theorem pp0_kind {T : Nat → Tk} {t w f : Nat} {e : Nat × Nat} (h2 : (T t).1 = 2) (ht : ¬ t = 700) (hw : ¬ w = 12) (he : pWa T 46 (t + 1) = .error e) : pp T (f + 6) 0 t w nl = .error e := sorry
theorem pp0_700 {T : Nat → Tk} {w f : Nat} (h2 : (T 700).1 = 2) : pp T (f + 6) 0 700 w nl = .error (3, 700) := sorry
section SPX
variable {l : Launch} {G : Gl}
theorem LT.pd {σ : Sg} {b n t w m r c : Nat} {B : Nat → Nat} {v : Int32} (h : LT σ b B n t w m r) (hc : 1515 < c ∧ c ≤ 1517) : LT (sI σ c 0 0 v) b B n t w m r := sorry
theorem nI_m1 (w : Nat) : nI (w + 1) - 1 = nI w := sorry
theorem NdS.pd {σ : Sg} {j c : Nat} {v : Int32} (hc : 1514 < c) : NdS σ (sI σ c 0 0 v) j := sorry
def SX8 (l : Launch) (G : Gl) (b : Nat) (B : Nat → Nat) (n f : Nat) : Prop := ∀ (d : Nat) (σ : Sg) (t w m r : Nat), LT σ b B n t w m r → Pn σ → m < t → w ≤ 12 → 12 * (701 - t) + 7 ≤ f → 12 * (13 - w) + 18 ≤ d → CT l G yX5_around (ws_ yX5_around cX5_around 4 (some .int)) d [.ref (G.adr 5 0), .int (nI (t - 1))] σ (oE G b B n σ t w m m true (pp (yTok B n) f 8 t w nl))
/-- a node with a tree behind it -/
theorem mkU {s : Sg} {T : Nat → Tk} {L k at_ a1 a2 nm cn lo hi p : Nat} {x : Tr} (hk : k = 11 ∨ k = 20) (hr : lo ≤ p ∧ p < hi ∧ p < 1410) (hx : isP x = false) (c1 : s.I 1509 0 p = nI k) (c2 : s.I 1510 0 p = nI at_) (hN : NmOK T L (lb k at_ a1 a2 nm cn)) (f1 : LTr s T L x (p + 1) hi (s.I 1511 0 p)) (f4 : k = 11 → s.I 1512 0 p = nI a2) : LTr s T L (nd (lb k at_ a1 a2 nm cn) x nl) lo hi (nI p) := sorry
theorem lx_8 (hG : GOK G) {b n : Nat} {B : Nat → Nat} (f : Nat) (hX0 : ∀ f', f' < f → SX0 l G b B n f') (hX3 : ∀ f', f' < f → SX3 l G b B n f') (hXb : ∀ f', f' < f → SXb l G b B n f') : SX8 l G b B n f := sorry
end SPX
