/-! LINKHOUSE's MACHINE: static calls, by super, makers. -/
section CL2
variable {l : Launch} {G : Gl} {d : Nat} {σ s : Sg} {P : Pg}
variable {M : MSt} {a : Nat} {S0 : Bw} {m p k b u : Nat} {ic : Bool} {e : Env} {o as : List Int32} {fs : List Fr}
/-- the member that a call's use comes to -/
theorem met_at (hM : WMa σ P) {t : MSt} (hIt : MInv σ t) {v0 : Nat} (hv : 7 ≤ v0 ∧ v0 ≤ 12) (h3' : uSo σ k u = nI v0) (hk : k ∈ wKs σ 0) (nb : ¬ σ.I 1101 k 0 = 26) (hu : u < nUk σ k) {c : Nat} {r : MT} (lct : Ldd σ t.ls c) (hq : RsOk σ (uAt σ k u) k c r) : ∃ d1 jm, r.2.2.1 = some (33 * d1 + jm) ∧ d1 ∈ wKs σ 0 ∧ jm < nMe σ d1 ∧ σ.I 1200 (33 * d1 + jm) 0 = 1 ∧ pmL σ (33 * d1 + jm) = uPm σ k u ∧ σ.L 1207 (33 * d1 + jm) 0 = uTy σ k u ∧ σ.B 1203 (33 * d1 + jm) 0 = decide (v0 = 9 ∨ v0 = 10) ∧ ¬ σ.I 1101 d1 0 = 26 := sorry
theorem par_n (hM : WMa σ P) {x : Nat} (hx : x < 22404) (h : stat s = stat σ) : s.I 1208 x 0 = nI (nPa σ x) ∧ nPa σ x ≤ 4 := sorry
/-- a start that failed -/
theorem st_flt {S : StaF} (hS : StK σ S) {c : Nat} (hc : c ∈ wKs σ 0) (hI : MInv σ M) (q : ¬ rzc (S c M) = 0) : FlE (rzc (S c M)) ∧ ¬ rzc (S c M) ≤ 0 ∧ S c M = rzf (S c M).1 (rzc (S c M)) := sorry
theorem br_callT (hG : GOK G) (hd : 140 ≤ d) (hM : WMa σ P) (hE : MeE σ) (hI : MInv σ M) {S : StaF} (hS : StK σ S) (hk : KHw σ M k) (hu : u < nUk σ k) (h3 : uSo σ k u = 9 ∨ uSo σ k u = 10) (ha : vOkL σ M (uPm σ k u) as) : ∃ M' D, ClP σ (fun C => rzT σ C S k u as M) M (uTy σ k u) M' D ∧ ∀ s a S0 m p ic e o fs, StC l G (d - 2) σ S a → MRl σ (M, a, S0, (m, p, ic, e, as.reverse ++ o) :: fs) s → Rmx σ a S0 ((m, p, ic, e, as.reverse ++ o) :: fs) → Rmx σ a S0 ((m, p, ic, e, o) :: fs) → CT l G yX9_byRow (ws_ yX9_byRow cX9_byRow 6 (some .int)) d [.ref (G.adr 9 0), .int 17, rv G 7 (some (uAt σ k u))] s (rI (caV M' a D) (CaO σ M' a S0 D m p ic e o fs)) := sorry
end CL2
