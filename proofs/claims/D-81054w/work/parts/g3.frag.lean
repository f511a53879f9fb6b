/-! LINKHOUSE's MACHINE: static fields and starts run by themselves. -/
/-- what a fragment answers -/
def rzx {α : Type} (r : Rz α) : Int32 := match r.2 with
  | .ok _ => 0
  | .error x => if x.1 = true then -1 else x.2
section FRG
variable {l : Launch} {G : Gl} {d : Nat} {σ s : Sg} {P : Pg} {fl : Nat} {Q : Outcome → Sg → Prop} {C : CalF} {S : StaF}
variable {M : MSt} {a : Nat} {S0 : Bw} {m k b j N : Nat} {ic : Bool} {fs rest : List Fr}
/-- the loop ends -/
theorem Lpq.fin {F : FSt} (hl : F.2.2.2.length ≤ fl) (hf : fl < 100) (h : ∀ s, MRl σ F s → Q (.returned (some (.int 0))) s) : Lpq l G d σ fl Q F := sorry
theorem Uwq.fin {F : FSt} {ob : Int32} (hl : F.2.2.2.length ≤ fl) (hf : fl < 100) (h : ∀ s, MRl σ F s → Q (.returned (some (.int (-1)))) s) : Uwq l G d σ fl Q F ob := sorry
theorem skF_app : ∀ (fs' : List Fr), ∃ X, skF σ S0 (fs' ++ fs) = skF σ S0 fs ++ X := sorry
theorem FrA.cut : ∀ (fs' : List Fr), FrA σ S0 s (fs' ++ fs) → FrA σ S0 s fs := sorry
/-- what is above is left -/
theorem MRl.cut {a' : Nat} {fs' : List Fr} {x y z : Int32} (h : MRl σ (M, a', S0, fs' ++ fs) s) (hx : x = tpI fs) (hy : y = nI a) (hz : z = nI (skF σ S0 fs).length) : MRl σ (M, a, S0, fs) (sI (sI (sI s 1921 0 0 x) 1913 0 0 y) 1916 0 0 z) := sorry
/-- a fragment runs, if its code does -/
theorem sp_frag (hG : GOK G) (hd : 3 ≤ d) {α : Type} {r : Rz α} {c : Nat} (hmk : Enk σ m c) (h : MRl σ (M, a, S0, fs) s) (hb : Frn σ S0 m [] fs) (hf : fs.length < 90)
    (H : ∀ Q, KO r (fun t _ => ∀ a' fs' u, MRl σ (t, a', S0, fs' ++ fs) u → Q (.returned (some (.int 0))) u) (fun t _ => ∀ a' fs' u, MRl σ (t, a', S0, fs' ++ fs) u → Q (.returned (some (.int (-1)))) u) (Fq σ S0 fs Q) → Lpq l G (d - 2) σ fs.length Q (M, a, S0, (m, c, false, envA [], []) :: fs)) : CT l G yX9_fragment (ws_ yX9_fragment cX9_fragment 6 (some .int)) d [.ref (G.adr 9 0), rv G 2 (some m)] s (rI (rzx r) (fun t => MRl σ (r.1, a, S0, fs) t)) := sorry
/-- a static field is laid -/
noncomputable def frF (σ : Sg) (P : Pg) (C : CalF) (S : StaF) (k j : Nat) (M : MSt) : Rz Unit := rzb (evX σ C S k (envA []) (P.1 (33 * k + j)) M) fun s v => rzk (s.wSv (setN s.sv (20 * nW σ k + (σ.I 1221 (33 * k + j) 0).toNatClampNeg) (hd1 v))) ()
/-- a start runs -/
noncomputable def frS (σ : Sg) (P : Pg) (C : CalF) (S : StaF) (k j : Nat) (M : MSt) : Rz Unit := rzb (zsV (exS σ C S k (ffA σ P C S k) (P.1 (33 * k + j)) (M, envA []))) fun s _ => rzk s ()
theorem KO.all {α : Type} {r : Rz α} {ok ok' : MSt → α → Prop} {th th' fa fa' : MSt → Int32 → Prop} (h : KO r ok th fa) (h1 : ∀ t x, ok t x → ok' t x) (h2 : ∀ t f, th t f → th' t f) (h3 : ∀ t f, fa t f → fa' t f) : KO r ok' th' fa' := sorry
theorem sp_frF (hG : GOK G) (hd : 145 ≤ d) (hW : WCo σ P) (hC : CaK σ C) (hS : StK σ S) (hSt : ∀ d', d - 5 ≤ d' → StC l G d' σ S a) (hCs : CalS l G (d - 3) σ C a) (hk : KHw σ M k) (hj : j < nMe σ k) (hI : MInv σ M) (q1 : σ.I 1200 (33 * k + j) 0 = 0) (q2 : σ.B 1203 (33 * k + j) 0 = true) (q3 : rLf (P.1 (33 * k + j)) = false) (hr : RmF σ a S0 fs) (h : MRl σ (M, a, S0, fs) s) : CT l G yX9_fragment (ws_ yX9_fragment cX9_fragment 6 (some .int)) d [.ref (G.adr 9 0), rv G 2 (some (33 * k + j))] s (rI (rzx (frF σ P C S k j M)) (fun t => MRl σ ((frF σ P C S k j M).1, a, S0, fs) t)) := sorry
theorem sp_frS (hG : GOK G) (hd : 145 ≤ d) (hW : WCo σ P) (hC : CaK σ C) (hS : StK σ S) (hSt : ∀ d', d - 5 ≤ d' → StC l G d' σ S a) (hCs : CalS l G (d - 3) σ C a) (hk : KHw σ M k) (hj : j < nMe σ k) (hI : MInv σ M) (q3 : σ.I 1200 (33 * k + j) 0 = 3) (hr : RmF σ a S0 fs) (h : MRl σ (M, a, S0, fs) s) : CT l G yX9_fragment (ws_ yX9_fragment cX9_fragment 6 (some .int)) d [.ref (G.adr 9 0), rv G 2 (some (33 * k + j))] s (rI (rzx (frS σ P C S k j M)) (fun t => MRl σ ((frS σ P C S k j M).1, a, S0, fs) t)) := sorry
end FRG
