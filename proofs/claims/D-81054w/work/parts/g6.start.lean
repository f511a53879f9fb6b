/-! LINKHOUSE's MACHINE: classes start; calls and starts of all levels. -/
/-- starts of a level -/
noncomputable def staU (σ : Sg) (G : Nat → MSt → Rz Unit) : StaF := fun k s => if σ.I 1101 k 0 = 26 then rzk s () else if s.sr (nW σ k) = 0 then G k s else if s.sr (nW σ k) = 3 then rzf s 9 else rzk s ()
/-- a class that was not started, on a level that is left -/
noncomputable def staG (σ : Sg) (P : Pg) (C : CalF) (S : StaF) : Nat → MSt → Rz Unit := fun k s => rzb (rzL σ k s) fun s _ => stEn σ k (stAl σ P C S k ((s.wSr (setN s.sr (nW σ k) 1)).wLs (evt σ s.ls k 3)))
section STU
variable {l : Launch} {G : Gl} {d : Nat} {σ s : Sg} {P : Pg} {Q : Outcome → Sg → Prop} {C : CalF} {S : StaF}
variable {M : MSt} {a : Nat} {S0 : Bw} {k : Nat} {fs : List Fr}
theorem MRl.act {a' : Nat} {x : Int32} (h : MRl σ (M, a, S0, fs) s) (hx : x = nI a') : MRl σ (M, a', S0, fs) (sI s 1913 0 0 x) := sorry
/-- behind linking -/
def stLn (l : Launch) (G : Gl) (d k : Nat) (R : Outcome → Sg → Prop) (v : Int32) (t : Sg) : Prop := (v ≤ 0 → (vp_in (t.I 1128 k 0) 64 ∧ (CT l G yX8_tellEvent (ws_ yX8_tellEvent cX8_tellEvent 3 none) d [.ref (G.adr 8 1), rv G 1 (some k), .int 3] (sI t 1903 0 (t.I 1128 k 0).toNatClampNeg 1) (oV (fun σ_8 => CT l G yX9_startAll (ws_ yX9_startAll cX9_startAll 6 (some .int)) d [.ref (G.adr 9 0), rv G 1 (some k)] (sI σ_8 1913 0 0 ((σ_8.I 1913 0 0) + 1)) (oI (fun v_10 σ_9 => ((¬ v_10 = 0) → (wq_X9_start_121 l G d 0 (some k) R v_10 0 (σ_9.I 1128 k 0) 3 (sI σ_9 1913 0 0 ((σ_9.I 1913 0 0) - 1)))) ∧ ((v_10 = 0) → (wq_X9_start_121 l G d 0 (some k) R v_10 0 (σ_9.I 1128 k 0) 2 (sI σ_9 1913 0 0 ((σ_9.I 1913 0 0) - 1))))) (fun x σ' => R (.threw x) σ'))) (fun x σ' => R (.threw x) σ'))))) ∧ (¬ v ≤ 0 → R (.returned (some (.int v))) t)
/-- what happens where a class was started already, or is not -/
theorem sta_gen (hG : GOK G) (hd : 2 ≤ d) (hM : WMa σ P) {GG : Nat → MSt → Rz Unit} (H : ∀ (k : Nat) (M : MSt) (S0 : Bw) (fs : List Fr) (s : Sg), k ∈ wKs σ 0 → ¬ σ.I 1101 k 0 = 26 → M.sr (nW σ k) = 0 → MInv σ M → MRl σ (M, a, S0, fs) s → Rmx σ a S0 fs → (¬ a = 24 → CT l G yX9_link (ws_ yX9_link cX9_link 4 (some .int)) (d - 1) [.ref (G.adr 9 0), rv G 1 (some k)] s (oI (stLn l G (d - 1) k (rI (rzc (GG k M)) (fun t => MRl σ ((GG k M).1, a, S0, fs) t))) (fun x σ' => rI (rzc (GG k M)) (fun t => MRl σ ((GG k M).1, a, S0, fs) t) (.threw x) σ'))) ∧ (a = 24 → GG k M = rzf M 15)) : StC l G d σ (staU σ GG) a := sorry
/-- a class ends to start -/
theorem st_121 (hG : GOK G) (hd : 1 ≤ d) (hM : WMa σ P) (hk : k ∈ wKs σ 0) {r : Rz Unit} {R : Rz Unit} (hR : R = stEn σ k r) {v w ev : Int32} (hv : v = rzc r) (hc : (r.2 = .ok () ∧ v = 0 ∧ w = 2 ∧ ev = 4) ∨ ((∃ y, r.2 = .error y) ∧ ¬ v = 0 ∧ w = 3 ∧ ev = 7)) (h : MRl σ (r.1, a, S0, fs) s) : wq_X9_start_121 l G d 0 (some k) (rI (rzc R) (fun t => MRl σ (R.1, a, S0, fs) t)) v 0 (s.I 1128 k 0) w s := sorry
theorem sta_up (hG : GOK G) (hd : 280 ≤ d) (hW : WCo σ P) (hC : CaK σ C) (hS : StK σ S) (ha : a < 24) (hSt : ∀ d', d - 7 ≤ d' → StC l G d' σ S (a + 1)) (hCs : CalS l G (d - 5) σ C (a + 1)) : StC l G d σ (staU σ (staG σ P C S)) a := sorry
/-- CALLS AND STARTS OF ALL LEVELS ARE AS mcF SAYS -/
theorem mcF_all (hG : GOK G) (hW : WCo σ P) : ∀ (n a : Nat), a + n = 24 → ∀ d, 300 + 10 * n ≤ d → CalS l G d σ (mcF σ P n).1 a ∧ StC l G d σ (mcF σ P n).2 a := sorry
theorem Uwq.end0 {ob : Int32} (h : ∀ s, MRl σ (M, a, S0, []) s → s.I 1914 0 0 = ob → Q (.returned (some (.int (-1)))) s) : Uwq l G d σ 0 Q (M, a, S0, []) ob := sorry
/-- what is given -/
def rzg (r : Rz Int32) : Int32 := match r.2 with
  | .ok w => w
  | .error x => if x.1 = true then x.2 else 0
/-- LINKHOUSE's MACHINE RUNS AS mcR SAYS -/
theorem sp_X9_call (hG : GOK G) (hd : 600 ≤ d) (hW : WCo σ P) {j : Nat} (hk : k ∈ wKs σ 0) (nb : ¬ σ.I 1101 k 0 = 26) (hj : j < nMe σ k) (h1 : σ.I 1200 (33 * k + j) 0 = 1) (h5 : σ.B 1205 (33 * k + j) 0 = false) (h3 : σ.B 1203 (33 * k + j) 0 = true) (h0 : nPa σ (33 * k + j) = 0) (hF : Fl pMa σ s) (hR : MRm s M) (hI : MInv σ ((M.wOu []).wSp 0)) : CT l G yX9_call (ws_ yX9_call cX9_call 4 (some .int)) d [.ref (G.adr 9 0), rv G 1 (some k), rv G 2 (some (33 * k + j))] s (rI (rzx (mcR σ P k (33 * k + j) M)) (fun t => Fl pMa σ t ∧ MRm t (mcR σ P k (33 * k + j) M).1 ∧ t.I 1914 0 0 = rzg (mcR σ P k (33 * k + j) M))) := sorry
end STU
