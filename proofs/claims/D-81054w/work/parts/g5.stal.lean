/-! LINKHOUSE's MACHINE: all that starting a class does. -/
section STL
variable {l : Launch} {G : Gl} {d : Nat} {σ s : Sg} {P : Pg} {Q : Outcome → Sg → Prop} {C : CalF} {S : StaF}
variable {M : MSt} {a : Nat} {S0 : Bw} {k j : Nat} {fs : List Fr}
/-- rows up to a level are told anew -/
abbrev ghB (S0 : Bw) (n : Nat) (s : Sg) : Bw := (S0.1, n, fun i j => s.R 1999 i j)
theorem skF_gh {g : Nat × (Nat → Nat → Option Nat)} : ∀ (fs : List Fr), skF σ (S0.1, g) fs = skF σ S0 fs := sorry
theorem FrA.gh {n : Nat} : ∀ {fs : List Fr}, FrA σ S0 s fs → FrA σ (ghB S0 n s) s fs := sorry
theorem FrA.rw : ∀ {fs : List Fr}, FrA σ S0 s fs → ∀ i j, i ≤ S0.2.1 → s.R 1999 i j = S0.2.2 i j := sorry
theorem FrA.un {n : Nat} {ρ : Nat → Nat → Option Nat} (hn : S0.2.1 ≤ n) (hr : ∀ i j, i ≤ S0.2.1 → ρ i j = S0.2.2 i j) : ∀ {fs : List Fr}, FrA σ (S0.1, n, ρ) s fs → FrA σ S0 s fs := sorry
theorem MRl.gh {n : Nat} (h : MRl σ (M, a, S0, fs) s) : MRl σ (M, a, ghB S0 n s, fs) s := sorry
theorem MRl.un {n : Nat} {ρ : Nat → Nat → Option Nat} (h : MRl σ (M, a, (S0.1, n, ρ), fs) s) (hn : S0.2.1 ≤ n) (hr : ∀ i j, i ≤ S0.2.1 → ρ i j = S0.2.2 i j) : MRl σ (M, a, S0, fs) s := sorry
theorem MRl.rr (h : MRl σ (M, a, S0, fs) s) : ∀ i j, i ≤ S0.2.1 → s.R 1999 i j = S0.2.2 i j := sorry
theorem kWh_se (h : stat s = stat σ) : kHWh s k = kWh σ k := sorry
/-- nothing is left to do -/
theorem st_84n {f : Int32} {t : Sg} (h0 : ¬ f = 0) (h : Q (.returned (some (.int f))) t) : wq_X9_startAll_84 l G d 0 (some k) Q f t := sorry
/-- faces start -/
theorem st_44 (hG : GOK G) (hd : 1 ≤ d) (hM : WMa σ P) (hS : StK σ S) (hSt : StC l G d σ S a) (hr : Rmx σ a S0 fs) (ha : S0.2.1 = a) {LL : List Nat} (hLL : ∀ i, i < LL.length → S0.2.2 a i = LL[i]?) (hl : LL.length ≤ 62) (hin : ∀ x, x ∈ LL → x ∈ wKs σ 0) : ∀ (L : List Nat) (i : Nat) (M : MSt) (s : Sg), (∃ L1, LL = L1 ++ L ∧ L1.length = i) → MInv σ M → MRl σ (M, a, S0, fs) s → (∀ t, MRl σ ((stFs σ S L M).1, a, S0, fs) t → wq_X9_startAll_84 l G d 0 (some k) Q (rzc (stFs σ S L M)) t) → wq_X9_startAll_44 l G d 0 (some k) Q (L.length + 2) 0 a (nI LL.length) (nI i) s := sorry
/-- constants are laid -/
theorem st_86 (hM : WMa σ P) (hk : k ∈ wKs σ 0) : ∀ (n j : Nat) (M : MSt) (s : Sg), j + n = nMe σ k → MRl σ (M, a, S0, fs) s → (∀ t, MRl σ (stCs σ k n j M, a, S0, fs) t → wq_X9_startAll_151 l G d 0 (some k) Q 0 t) → wq_X9_startAll_86 l G d 0 (some k) Q (n + 1) 0 (nI j) s := sorry
/-- static fields, starts -/
theorem t8_c {r : Rz Unit} (hr : RzOk σ M r (fun _ _ => True)) : rzc (t8 r) = (if rzx r = -1 then 8 else rzx r) ∧ (t8 r).1 = r.1 ∧ (rzc (t8 r) = 0 → r = (r.1, .ok ())) ∧ (¬ rzc (t8 r) = 0 → ∃ y, t8 r = (r.1, .error y)) := sorry
theorem st_153 (hG : GOK G) (hd : 145 ≤ d) (hW : WCo σ P) (hC : CaK σ C) (hS : StK σ S) (hSt : ∀ d', d - 5 ≤ d' → StC l G d' σ S a) (hCs : CalS l G (d - 3) σ C a) (hr : RmF σ a S0 fs) : ∀ (n j : Nat) (M : MSt) (s : Sg), j + n = nMe σ k → KHw σ M k → MInv σ M → MRl σ (M, a, S0, fs) s → (∀ t, MRl σ ((stMs σ P C S k n j M).1, a, S0, fs) t → Q (.returned (some (.int (rzc (stMs σ P C S k n j M))))) t) → wq_X9_startAll_153 l G d 0 (some k) Q (n + 2) 0 (nI j) s := sorry
/-- ALL THAT STARTING A CLASS DOES -/
theorem sp_startAll (hG : GOK G) (hd : 150 ≤ d) (hW : WCo σ P) (hC : CaK σ C) (hS : StK σ S) (hSt : ∀ d', d - 6 ≤ d' → StC l G d' σ S a) (hCs : CalS l G (d - 4) σ C a) (hk : KHw σ M k) (hI : MInv σ M) (hr : RmF σ a S0 fs) (hlo : S0.2.1 < a) (h : MRl σ (M, a, S0, fs) s) : CT l G yX9_startAll (ws_ yX9_startAll cX9_startAll 6 (some .int)) d [.ref (G.adr 9 0), rv G 1 (some k)] s (rI (rzc (stAl σ P C S k M)) (fun t => MRl σ ((stAl σ P C S k M).1, a, S0, fs) t)) := sorry
end STL
