/-! LINKHOUSE's MACHINE runs every S as exS says: those without parts. -/
/-- how many operands an S needs -/
def rNs : RT → Nat
  | .leaf => 0
  | .inner _ b _ x y => max (max (rNs x) (rNs y)) (if b.op = 0 ∨ b.op = 30 ∨ b.op = 36 ∨ b.op = 41 then 0 else if b.op = 32 ∨ b.op = 33 then rNd x else max (rNd x + 2) (rNd y + 2))
section SMS
variable {l : Launch} {G : Gl} {d : Nat} {σ : Sg} {P : Pg} {fl : Nat} {Q : Outcome → Sg → Prop} {C : CalF} {S : StaF}
variable {a : Nat} {S0 : Bw} {m k b : Nat} {ic : Bool} {fs rest : List Fr} {Γ : Nat → Int64} {st : Bool} {mt : Int64} {fsl : List Nat} {ff : Env → MSt → Rz Unit} {N : Nat}
/-- what is known besides: catches, fields that are laid first -/
def SsC (l : Launch) (G : Gl) (d : Nat) (σ : Sg) (fl : Nat) (Q : Outcome → Sg → Prop) (a : Nat) (S0 : Bw) (m k b : Nat) (ic : Bool) (fs rest : List Fr) (Γ : Nat → Int64) (st : Bool) (fsl : List Nat) (ff : Env → MSt → Rz Unit) (N : Nat) : Prop := (st = false → 0 < nLo σ m) ∧ (σ.I 2013 b 0 = nI N ∧ N ≤ 100 ∧ nUk σ k ≤ 1000 ∧ σ.I 1220 m 0 = nI (nLo σ m)) ∧ (st = false → ∀ e M, EvC σ M k Γ st (nLo σ m) e → MInv σ M → RzOk σ M (ff e M) (fun _ _ => True)) ∧ (st = false → ∀ (M : MSt) (e : Env) (p pe : Nat), EvC σ M k Γ st (nLo σ m) e → MInv σ M → CdA σ b p (frC fsl) → pe = p + (frC fsl).length → pe < 6000 → KO (ff e M) (fun t _ => Lpq l G (d + 1) σ fl Q (t, a, S0, (m, pe, ic, e, []) :: fs)) (ThE l G d σ fl Q a S0 m ic e fs p pe) (Fq σ S0 rest Q) → Lpq l G (d + 1) σ fl Q (M, a, S0, (m, p, ic, e, []) :: fs))
/-- behind an S -/
abbrev KoX (l : Launch) (G : Gl) (d : Nat) (σ : Sg) (fl : Nat) (Q : Outcome → Sg → Prop) (a : Nat) (S0 : Bw) (m : Nat) (ic : Bool) (fs rest : List Fr) (k b : Nat) (mt : Int64) (p pe qe : Nat) (r : Zs) : Prop := KoS r (fun t e => Lpq l G (d + 1) σ fl Q (t, a, S0, (m, pe, ic, e, []) :: fs)) (fun t w => Lpv l G (d + 1) σ fl Q (t, (if ic = true then a - 1 else a), pvS mt w S0 fs, pvF mt w fs) w) (ThS l G d σ fl Q a S0 m ic fs k b p pe qe) (Fq σ S0 rest Q)
/-- an S runs as exS says -/
def SmS (l : Launch) (G : Gl) (d : Nat) (σ : Sg) (fl : Nat) (Q : Outcome → Sg → Prop) (C : CalF) (S : StaF) (a : Nat) (S0 : Bw) (m k b : Nat) (ic : Bool) (fs rest : List Fr) (Γ : Nat → Int64) (st : Bool) (mt : Int64) (fsl : List Nat) (ff : Env → MSt → Rz Unit) (N : Nat) (x : RT) : Prop := ∀ (M : MSt) (e : Env) (p pe q0 qe : Nat), wtS σ k Γ st (nLo σ m) mt x → EvC σ M k Γ st (nLo σ m) e → MInv σ M → CdA σ b p (rcS fsl x p) → HdA σ b q0 (rhS fsl x p) → pe = p + (rcS fsl x p).length → qe = q0 + (rhS fsl x p).length → pe < 6000 → qe ≤ N → (∀ at', p ≤ at' → at' < pe → NoCv σ b 0 q0 at') → nLo σ m + rNs x ≤ 310 → KoX l G d σ fl Q a S0 m ic fs rest k b mt p pe qe (exS σ C S k ff x (M, e)) → Lpq l G (d + 1) σ fl Q (M, a, S0, (m, p, ic, e, []) :: fs)
/-- a step ahead of an S -/
theorem ss_step (H : SiC l G d σ P fl C S a S0 m k b fs rest) {M : MSt} {e : Env} {p pe qe : Nat} {kk : MSt → Zs} (hI : MInv σ M) (hc : EvC σ M k Γ st (nLo σ m) e) (hcd : CdA σ b p [1, 0]) (hp : p + 1 < 6000) (hl : nLo σ m ≤ 310) (h : KoX l G d σ fl Q a S0 m ic fs rest k b mt p pe qe (zse e (stp M) fun t _ => kk t)) (hk : ∀ t, MInv σ t → Ext M t → t.sp = M.sp + 1 → EvC σ t k Γ st (nLo σ m) e → KoX l G d σ fl Q a S0 m ic fs rest k b mt p pe qe (kk t) → Lpq l G (d + 1) σ fl Q (t, a, S0, (m, p + 2, ic, e, []) :: fs)) : Lpq l G (d + 1) σ fl Q (M, a, S0, (m, p, ic, e, []) :: fs) := sorry
/-- S's without parts -/
theorem sim_1 (H : SiC l G d σ P fl C S a S0 m k b fs rest) (X : SsC l G d σ fl Q a S0 m k b ic fs rest Γ st fsl ff N) {sz : Nat} {lb : RLb} {u : Unit} {x y : RT} (hop : lb.op = 31 ∨ lb.op = 34 ∨ lb.op = 35 ∨ lb.op = 37 ∨ lb.op = 39 ∨ lb.op = 40 ∨ lb.op = 42 ∨ lb.op = 43 ∨ lb.op = 44) : SmS l G d σ fl Q C S a S0 m k b ic fs rest Γ st mt fsl ff N (.inner sz lb u x y) := sorry
end SMS
