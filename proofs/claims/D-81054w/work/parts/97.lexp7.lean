/-! LinkHouse reads an E: what a unit begins with, the whole; the group closed. -/
section SPX
variable {l : Launch} {G : Gl}
/-- a node alone -/
theorem mkL {s : Sg} {T : Nat → Tk} {L k at_ a1 a2 nm cn lo hi p : Nat} (hk : k = 1 ∨ k = 2 ∨ k = 3) (hr : lo ≤ p ∧ p < hi ∧ p < 1410) (c1 : s.I 1509 0 p = nI k) (c2 : s.I 1510 0 p = nI at_) (hN : NmOK T L (lb k at_ a1 a2 nm cn)) : LTr s T L (nd (lb k at_ a1 a2 nm cn) nl nl) lo hi (nI p) := sorry
/-- new C ( ) -/
theorem mkW {s : Sg} {T : Nat → Tk} {L at_ a1 a2 nm cn lo hi p : Nat} {y : Tr} (hr : lo ≤ p ∧ p < hi ∧ p < 1410) (hy : isP y = false) (c1 : s.I 1509 0 p = nI 10) (c2 : s.I 1510 0 p = nI at_) (hN : NmOK T L (lb 10 at_ a1 a2 nm cn)) (f4 : s.I 1512 0 p = nI a2) (f6 : LTr s T L y (p + 1) hi (s.I 1513 0 p)) : LTr s T L (nd (lb 10 at_ a1 a2 nm cn) nl y) lo hi (nI p) := sorry
theorem lx_sup (hG : GOK G) {b n f : Nat} {B : Nat → Nat} (hX5 : SX5 l G b B n f) {d : Nat} {σ0 σ : Sg} {t w m r : Nat} {Q : Outcome → Sg → Prop} (hL : LT σ b B n (t + 1) w m r) (hP : Pn σ) (hm : m ≤ t) (hw : w ≤ 12) (hF : Fl (pT b) σ0 σ) (hS : ∀ j, j < m → NdS σ0 σ j) (hf : 12 * (701 - (t + 1)) + 1 ≤ f + 1) (hd : 12 * (13 - w) + 18 ≤ d) (hQ : oE G b B n σ0 t w m m true (pp (yTok B n) (f + 1) 7 (t + 1) w nl) = Q) : CT l G yX5_more (ws_ yX5_more cX5_more 3 (some .int)) d [.ref (G.adr 5 0), .int 9, .int (nI t)] σ (oI (fun v_24 σ_23 => CT l G yX5_superCall (ws_ yX5_superCall cX5_superCall 2 (some .int)) d (.ref (G.adr 5 0) :: [.int v_24]) σ_23 (oI (fun v_26 σ_25 => Q (.returned (some (.int v_26))) σ_25) (fun x σ => Q (.threw x) σ))) (fun x σ => Q (.threw x) σ)) := sorry
theorem lx_4 (hG : GOK G) {b n : Nat} {B : Nat → Nat} (f : Nat) (hX5 : ∀ f', f' < f → SX5 l G b B n f') (hX6 : ∀ f', f' < f → SX6 l G b B n f') (hX8 : ∀ f', f' < f → SX8 l G b B n f') : SX4 l G b B n f := sorry
theorem lx_b (hG : GOK G) {b n : Nat} {B : Nat → Nat} (f : Nat) (hX1 : SX1 l G b B n f) : SXb l G b B n f := sorry
/-- an E, also when super is pending -/
theorem lx_0p (hG : GOK G) {b n : Nat} {B : Nat → Nat} (f : Nat) (hXb : ∀ f', f' < f → SXb l G b B n f') : ∀ (d : Nat) (σ : Sg) (t w m : Nat), ((∃ r, LT σ b B n t w m r ∧ Pn σ) ∨ (∃ r, LT σ b B n (t + 1) w m r ∧ ¬ t = 700 ∧ (yTok B n t).1 = 228 ∧ σ.I 1516 0 0 = nI t ∧ σ.I 1517 0 0 = -2)) → m ≤ t → t ≤ 700 → w ≤ 12 → 12 * (701 - t) + 5 ≤ f → 12 * (13 - w) + 12 ≤ d → CT l G yX5_exp (ws_ yX5_exp cX5_exp 2 (some .int)) d [.ref (G.adr 5 0)] σ (oE G b B n σ t w m m true (pp (yTok B n) f 0 t w nl)) := sorry
/-- the whole group -/
theorem lx_all (hG : GOK G) {b n : Nat} {B : Nat → Nat} : ∀ f, SX0 l G b B n f ∧ SXb l G b B n f ∧ SX1 l G b B n f ∧ SX2 l G b B n f ∧ SX3 l G b B n f ∧ SX4 l G b B n f ∧ SX5 l G b B n f := sorry
end SPX
