/-! LINKHOUSE's MACHINE: fields that are laid first. -/
/-- whether a member is a field that is laid first -/
def fdF (σ : Sg) (P : Pg) (m : Nat) : Prop := σ.I 1200 m 0 = 0 ∧ σ.B 1203 m 0 = false ∧ rLf (P.1 m) = false
/-- those among members j .. j + n - 1 -/
noncomputable def fsR (σ : Sg) (P : Pg) (k : Nat) : Nat → Nat → List Nat
  | 0, _ => []
  | n + 1, j => if σ.I 1200 (33 * k + j) 0 = 0 ∧ σ.B 1203 (33 * k + j) 0 = false ∧ rLf (P.1 (33 * k + j)) = false then j :: fsR σ P k n (j + 1) else fsR σ P k n (j + 1)
/-- the code of such a field -/
def FdC (σ : Sg) (P : Pg) (b N m : Nat) : Prop := Enk σ m (cdAt σ m) ∧ CdA σ b (cdAt σ m) (rcE (P.1 m) ++ ([27, σ.I 1221 m 0] ++ [24, 0])) ∧ cdAt σ m + (rcE (P.1 m)).length + 4 < 6000 ∧ 0 < nLo σ m ∧ nLo σ m + rNd (P.1 m) ≤ 310 ∧ ∀ at', cdAt σ m ≤ at' → at' < cdAt σ m + (rcE (P.1 m)).length + 4 → NoCv σ b 0 N at'
section FFS
variable {l : Launch} {G : Gl} {d : Nat} {σ : Sg} {P : Pg} {fl : Nat} {Q : Outcome → Sg → Prop} {C : CalF} {S : StaF}
variable {a : Nat} {S0 : Bw} {m k b : Nat} {ic : Bool} {e : Env} {fs rest : List Fr} {N : Nat}
theorem sim_ff (H : SiC l G d σ P fl C S a S0 m k b fs rest) (h2a : fs.length + 2 ≤ 2 * a) (hnm : nLo σ m ≤ 310) (h0n : 0 < nLo σ m) (hN : σ.I 2013 b 0 = nI N) (hN1 : N ≤ 100) (hFd : ∀ j, j < nMe σ k → fdF σ P (33 * k + j) → FdC σ P b N (33 * k + j)) (h0 : ¬ e 0 = 0) : ∀ (n j : Nat) (M : MSt) (p pe : Nat), j + n = nMe σ k → KHw σ M k → vOk σ M (σ.L 1100 k 0) (e 0) → MInv σ M → CdA σ b p (frC (fsR σ P k n j)) → pe = p + (frC (fsR σ P k n j)).length → pe < 6000 → KO (ffF σ P C S k (e 0) n j M) (fun t _ => Lpq l G (d + 1) σ fl Q (t, a, S0, (m, pe, ic, e, []) :: fs)) (ThE l G d σ fl Q a S0 m ic e fs p pe) (Fq σ S0 rest Q) → Lpq l G (d + 1) σ fl Q (M, a, S0, (m, p, ic, e, []) :: fs) := sorry
end FFS
