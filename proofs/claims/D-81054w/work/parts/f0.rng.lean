/-! LINKHOUSE's MACHINE: where the catches of an S lie. -/
/-- a row that lies in p .. pe -/
def RwI (σ : Sg) (k p pe : Nat) (h : Ctc) : Prop := ∃ f t pl u, h = (nI f, nI t, nI pl, nI u) ∧ p ≤ f ∧ f ≤ t ∧ t ≤ pe ∧ pl ≤ pe ∧ u < nUk σ k
section RNG
variable {σ : Sg} {k : Nat} {Γ : Nat → Int64} {st : Bool} {nl : Nat} {mt : Int64} {fsl : List Nat}
theorem RwI.mono {p pe p' pe' : Nat} {h : Ctc} (hw : RwI σ k p pe h) (h1 : p' ≤ p) (h2 : pe ≤ pe') : RwI σ k p' pe' h := sorry
/-- all rows of a row of them -/
def RwL (σ : Sg) (k p pe : Nat) (H : List Ctc) : Prop := ∀ h, h ∈ H → RwI σ k p pe h
theorem RwL.app {p pe : Nat} {A B : List Ctc} (h1 : RwL σ k p pe A) (h2 : RwL σ k p pe B) : RwL σ k p pe (A ++ B) := sorry
theorem RwL.mono {p pe p' pe' : Nat} {H : List Ctc} (hw : RwL σ k p pe H) (h1 : p' ≤ p) (h2 : pe ≤ pe') : RwL σ k p' pe' H := sorry
theorem rhS_rng (x : RT) : (¬ rOp x = 41 → ∀ p, wtS σ k Γ st nl mt x → RwL σ k p (p + (rcS fsl x p).length) (rhS fsl x p)) ∧ (rOp x = 41 → wtS σ k Γ st nl mt x → ∃ sz b u yt ye, x = .inner sz b u yt ye ∧ (∀ p, RwL σ k p (p + (rcS fsl yt p).length) (rhS fsl yt p)) ∧ ∀ p, RwL σ k p (p + (rcS fsl ye p).length) (rhS fsl ye p)) := sorry
/-- rows that lie, as rows of the catches -/
theorem RwI.cro {b i p pe : Nat} {h : Ctc} (hw : RwI σ k p pe h) (hp : pe < 6000) (hu : nUk σ k ≤ 1000) (hh : σ.I 2012 b (4 * i) = h.1 ∧ σ.I 2012 b (4 * i + 1) = h.2.1 ∧ σ.I 2012 b (4 * i + 2) = h.2.2.1 ∧ σ.I 2012 b (4 * i + 3) = h.2.2.2) : ∃ r, Cro σ b i r ∧ p ≤ r.1 ∧ r.2.1 ≤ pe := sorry
/-- rows of an S do not cover what lies outside -/
theorem rw_out {b q0 p pe at' : Nat} {H : List Ctc} (hl : RwL σ k p pe H) (hh : HdA σ b q0 H) (hp : pe < 6000) (hu : nUk σ k ≤ 1000) (ha : at' < p ∨ pe ≤ at') : NoCv σ b q0 (q0 + H.length) at' := sorry
theorem NoCv.app {b i1 i2 i3 at' : Nat} (h1 : NoCv σ b i1 i2 at') (h2 : NoCv σ b i2 i3 at') : NoCv σ b i1 i3 at' := sorry
theorem HdA.spl {b q0 : Nat} {A B : List Ctc} (h : HdA σ b q0 (A ++ B)) : HdA σ b q0 A ∧ HdA σ b (q0 + A.length) B := sorry
end RNG
