/-! LINKHOUSE's MACHINE: a body runs to its end. -/
section BOD
variable {l : Launch} {G : Gl} {d : Nat} {σ : Sg} {P : Pg} {fl : Nat} {Q : Outcome → Sg → Prop} {C : CalF} {S : StaF}
variable {a : Nat} {S0 : Bw} {m k b : Nat} {ic : Bool} {fs rest : List Fr} {Γ : Nat → Int64} {st : Bool} {mt : Int64} {fsl : List Nat} {ff : Env → MSt → Rz Unit} {N : Nat}
/-- what a body comes to, as outcomes of an S -/
theorem KO.zs {r : Zs} {ok : MSt → Int32 → Prop} {th fa : MSt → Int32 → Prop} (h : KO (zsV r) ok th fa) : KoS r (fun t _ => ok t 0) ok (fun t _ ob => th t ob) fa := sorry
theorem KoS.dn {r : Zs} {dn dn' : MSt → Env → Prop} {rt : MSt → Int32 → Prop} {th : MSt → Env → Int32 → Prop} {fa : MSt → Int32 → Prop} (hr : ¬ r.2 = .ok none) (h : KoS r dn rt th fa) : KoS r dn' rt th fa := sorry
/-- a body, then its last code -/
theorem run_S (H : SiC l G d σ P fl C S a S0 m k b fs rest) (X : SsC l G d σ fl Q a S0 m k b ic fs rest Γ st fsl ff N) {y : RT} {M : MSt} {e : Env} {p q0 : Nat} (n41 : ¬ rOp y = 41) (hw : wtS σ k Γ st (nLo σ m) mt y) (hdn : ¬ mt = 0 → rDn y = false) (hc : EvC σ M k Γ st (nLo σ m) e) (hI : MInv σ M) (hcd : CdA σ b p (rcS fsl y p ++ [24, 0])) (hhd : HdA σ b q0 (rhS fsl y p)) (hp6 : p + (rcS fsl y p).length + 2 < 6000) (hqN : q0 + (rhS fsl y p).length ≤ N) (hn1 : ∀ at', p ≤ at' → at' < p + (rcS fsl y p).length → NoCv σ b 0 q0 at' ∧ NoCv σ b (q0 + (rhS fsl y p).length) N at') (hn : nLo σ m + rNs y ≤ 310)
    (h : KO (zsV (exS σ C S k ff y (M, e))) (fun t w => Lpv l G (d + 1) σ fl Q (t, (if ic = true then a - 1 else a), pvS mt w S0 fs, pvF mt w fs) w) (fun t ob => Uwq l G d σ fl Q (t, (if ic = true then a - 1 else a), S0, fs) ob) (Fq σ S0 rest Q)) : Lpq l G (d + 1) σ fl Q (M, a, S0, (m, p, ic, e, []) :: fs) := sorry
end BOD
