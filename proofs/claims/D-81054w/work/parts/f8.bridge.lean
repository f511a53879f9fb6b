/-! LINKHOUSE's MACHINE: bridges. -/
section BRI
variable {l : Launch} {G : Gl} {d : Nat} {σ : Sg} {P : Pg} {fl : Nat} {Q : Outcome → Sg → Prop} {C : CalF} {S : StaF}
variable {a : Nat} {S0 : Bw} {m k b u : Nat} {ic : Bool} {e : Env} {fs rest : List Fr} {N : Nat}
theorem lp_ldP (H : SiC l G d σ P fl C S a S0 m k b fs rest) {M : MSt} : ∀ (n f p : Nat) (o : List Int32), CdA σ b p (ldP n f) → p + 2 * n < 6000 → f + n ≤ nLo σ m → nLo σ m + (o.length + n) ≤ 314 → Lpq l G (d + 1) σ fl Q (M, a, S0, (m, p + 2 * n, ic, e, ((List.range n).map fun i => e (f + i)).reverse ++ o) :: fs) → Lpq l G (d + 1) σ fl Q (M, a, S0, (m, p, ic, e, o) :: fs) := sorry
theorem env_map {as : List Int32} : (List.range as.length).map (fun i => envA as (0 + i)) = as := sorry
theorem env_tl {v : Int32} {as : List Int32} : (List.range as.length).map (fun i => envA (v :: as) (1 + i)) = as := sorry
/-- a static bridge -/
theorem run_Bs (H : SiC l G d σ P fl C S a S0 m k b fs rest) {M : MSt} {as : List Int32} {p : Nat} (hN : σ.I 2013 b 0 = nI N) (hN1 : N ≤ 100) (hI : MInv σ M) (hkw : KHw σ M k) (hu : u < nUk σ k) (h3 : uSo σ k u = 9 ∨ uSo σ k u = 10) (ha : vOkL σ M (uPm σ k u) as) (hty : ¬ uTy σ k u = 0) (hal : as.length ≤ nLo σ m) (hnl : nLo σ m + as.length ≤ 310) (hcd : CdA σ b p (ldP as.length 0 ++ ([17, nI u] ++ [25, 0]))) (hp : p + 2 * as.length + 4 < 6000) (hnc : NoCv σ b 0 N (p + 2 * as.length)) (hld : (ldP as.length 0).length = 2 * as.length)
    (h : KO (rzT σ C S k u as M) (fun t w => Lpv l G (d + 1) σ fl Q (t, (if ic = true then a - 1 else a), psS w S0 fs, psF w fs) w) (fun t ob => Uwq l G d σ fl Q (t, (if ic = true then a - 1 else a), S0, fs) ob) (Fq σ S0 rest Q)) : Lpq l G (d + 1) σ fl Q (M, a, S0, (m, p, ic, envA as, []) :: fs) := sorry
/-- a bridge of objects -/
theorem run_Bv (H : SiC l G d σ P fl C S a S0 m k b fs rest) {M : MSt} {v : Int32} {as : List Int32} {p : Nat} (hN : σ.I 2013 b 0 = nI N) (hN1 : N ≤ 100) (hI : MInv σ M) (hkw : KHw σ M k) (hu : u < nUk σ k) (h3 : uSo σ k u = 7 ∨ uSo σ k u = 8) (hv : vOk σ M (uTi σ k u) v) (hn1 : ¬ uTi σ k u = 1) (ha : vOkL σ M (uPm σ k u) as) (hty : ¬ uTy σ k u = 0) (hal : as.length + 1 ≤ nLo σ m) (hnl : nLo σ m + as.length ≤ 310) (hcd : CdA σ b p ([3, 0] ++ (ldP as.length 1 ++ ([17, nI u] ++ [25, 0])))) (hp : p + 2 + 2 * as.length + 4 < 6000) (hnc : NoCv σ b 0 N (p + 2 + 2 * as.length)) (hld : (ldP as.length 1).length = 2 * as.length)
    (h : KO (rzV σ C k u v as M) (fun t w => Lpv l G (d + 1) σ fl Q (t, (if ic = true then a - 1 else a), psS w S0 fs, psF w fs) w) (fun t ob => Uwq l G d σ fl Q (t, (if ic = true then a - 1 else a), S0, fs) ob) (Fq σ S0 rest Q)) : Lpq l G (d + 1) σ fl Q (M, a, S0, (m, p, ic, envA (v :: as), []) :: fs) := sorry
end BRI
