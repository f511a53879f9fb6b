/-! LINKHOUSE's MACHINE runs every E as evX says. -/
/-- how many operands a tree needs -/
def rNd : RT → Nat
  | .leaf => 0
  | .inner _ _ _ x y => max (rNd x) (rNd y + 2)
theorem rNd_i {sz : Nat} {b : RLb} {u : Unit} {x y : RT} : rNd x ≤ rNd (.inner sz b u x y) ∧ rNd y + 2 ≤ rNd (.inner sz b u x y) := sorry
theorem rNd_l : ∀ (x : RT), (rTyL x).length ≤ rNd x := sorry
/-- what an E leaves upon the operands -/
def pvO (x : RT) (vs o : List Int32) : List Int32 := if 1 ≤ rOp x ∧ rTy x = 0 then o else vs.reverse ++ o
section SME
variable {l : Launch} {G : Gl} {d : Nat} {σ : Sg} {P : Pg} {fl : Nat} {Q : Outcome → Sg → Prop} {C : CalF} {S : StaF}
variable {a : Nat} {S0 : Bw} {m k b : Nat} {ic : Bool} {e : Env} {fs rest : List Fr} {Γ : Nat → Int64} {st : Bool}
theorem pvO_v {x : RT} {t : MSt} {vs o : List Int32} (h : EvR σ x t vs) (hx : isEx x) : pvO x vs o = hd1 vs :: o ∧ vOk σ t (rTy x) (hd1 vs) := sorry
theorem pvO_r {y : RT} {t : MSt} {vs o : List Int32} (h : EvR σ y t vs) (hy : isRo y) : pvO y vs o = vs.reverse ++ o ∧ vOkL σ t (rTyL y) vs := sorry
theorem pvO_1 {sz : Nat} {lb : RLb} {u : Unit} {x y : RT} {v : Int32} {o : List Int32} : (if lb.ty = 0 then o else v :: o) = pvO (.inner sz lb u x y) [v] o ∨ lb.op = 0 := sorry
/-- when it is thrown, wherever that was -/
abbrev ThE (l : Launch) (G : Gl) (d : Nat) (σ : Sg) (fl : Nat) (Q : Outcome → Sg → Prop) (a : Nat) (S0 : Bw) (m : Nat) (ic : Bool) (e : Env) (fs : List Fr) (p pe : Nat) (t : MSt) (ob : Int32) : Prop := ∀ (q : Nat) (o' : List Int32), p ≤ q → q < pe → Uwq l G d σ fl Q (t, a, S0, (m, q + 2, ic, e, o') :: fs) ob
abbrev KoE (l : Launch) (G : Gl) (d : Nat) (σ : Sg) (fl : Nat) (Q : Outcome → Sg → Prop) (a : Nat) (S0 : Bw) (m : Nat) (ic : Bool) (e : Env) (fs rest : List Fr) (p pe : Nat) (x : RT) (o : List Int32) (r : Rz (List Int32)) : Prop := KO r (fun t vs => Lpq l G (d + 1) σ fl Q (t, a, S0, (m, pe, ic, e, pvO x vs o) :: fs)) (ThE l G d σ fl Q a S0 m ic e fs p pe) (Fq σ S0 rest Q)
theorem sim_E (H : SiC l G d σ P fl C S a S0 m k b fs rest) (h0n : st = false → 0 < nLo σ m) (x : RT) : ∀ (M : MSt) (p pe : Nat) (o : List Int32), wtE σ k Γ st (nLo σ m) x → EvC σ M k Γ st (nLo σ m) e → MInv σ M → CdA σ b p (rcE x) → pe = p + (rcE x).length → pe ≤ 6000 → nLo σ m + o.length + rNd x ≤ 310 → KoE l G d σ fl Q a S0 m ic e fs rest p pe x o (evX σ C S k e x M) → Lpq l G (d + 1) σ fl Q (M, a, S0, (m, p, ic, e, o) :: fs) := sorry
end SME
