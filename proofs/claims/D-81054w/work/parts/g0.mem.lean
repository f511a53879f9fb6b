/-! LINKHOUSE's MACHINE: members run; calls of a level out of those of the level below. -/
/-- what stands ahead of a maker's body -/
noncomputable def mkP (σ : Sg) (P : Pg) (k m : Nat) : List Int32 := if σ.I 1200 m 0 = 2 ∧ rSup (P.1 m) = false then (if P.2 m = 0 then [] else [3, 0] ++ [19, nI (P.2 m - 1)]) ++ frC (fsR σ P k (nMe σ k) 0) else []
/-- the code of a body, its catches -/
noncomputable def bdR (σ : Sg) (P : Pg) (k m : Nat) : List Int32 := rcS (fsR σ P k (nMe σ k) 0) (P.1 m) (cdAt σ m + (mkP σ P k m).length)
noncomputable def bhR (σ : Sg) (P : Pg) (k m : Nat) : List Ctc := rhS (fsR σ P k (nMe σ k) 0) (P.1 m) (cdAt σ m + (mkP σ P k m).length)
def BdC (σ : Sg) (P : Pg) (b N k m : Nat) : Prop := Enk σ m (cdAt σ m) ∧ nLo σ m + rNs (P.1 m) ≤ 310 ∧ cdAt σ m + (mkP σ P k m).length + (bdR σ P k m).length + 2 < 6000 ∧ CdA σ b (cdAt σ m) (mkP σ P k m ++ (bdR σ P k m ++ [24, 0])) ∧ (∀ at', cdAt σ m ≤ at' → at' < cdAt σ m + (mkP σ P k m).length → NoCv σ b 0 N at') ∧ ∃ q0, HdA σ b q0 (bhR σ P k m) ∧ q0 + (bhR σ P k m).length ≤ N ∧ ∀ at', cdAt σ m + (mkP σ P k m).length ≤ at' → at' < cdAt σ m + (mkP σ P k m).length + (bdR σ P k m).length → NoCv σ b 0 q0 at' ∧ NoCv σ b (q0 + (bhR σ P k m).length) N at'
/-- of a bridge -/
def BrC (σ : Sg) (P : Pg) (b N m : Nat) : Prop := Enk σ m (cdAt σ m) ∧ nLo σ m + nPa σ m ≤ 310 ∧ cdAt σ m + 2 + 2 * nPa σ m + 4 < 6000 ∧ (if σ.B 1203 m 0 = true then CdA σ b (cdAt σ m) (ldP (nPa σ m) 0 ++ ([17, nI (P.2 m - 1)] ++ [25, 0])) ∧ NoCv σ b 0 N (cdAt σ m + 2 * nPa σ m) else CdA σ b (cdAt σ m) ([3, 0] ++ (ldP (nPa σ m) 1 ++ ([17, nI (P.2 m - 1)] ++ [25, 0]))) ∧ NoCv σ b 0 N (cdAt σ m + 2 + 2 * nPa σ m))
/-- of a static field -/
def FsCd (σ : Sg) (P : Pg) (b N m : Nat) : Prop := Enk σ m (cdAt σ m) ∧ CdA σ b (cdAt σ m) (rcE (P.1 m) ++ ([26, σ.I 1221 m 0] ++ [24, 0])) ∧ cdAt σ m + (rcE (P.1 m)).length + 4 < 6000 ∧ nLo σ m + rNd (P.1 m) ≤ 310 ∧ ∀ at', cdAt σ m ≤ at' → at' < cdAt σ m + (rcE (P.1 m)).length + 4 → NoCv σ b 0 N at'
/-- members have the code of their trees -/
def MeC (σ : Sg) (P : Pg) : Prop := ∀ k, k ∈ wKs σ 0 → ¬ σ.I 1101 k 0 = 26 → ∀ b, σ.R 1126 k 0 = some b → ∃ N, N ≤ 100 ∧ σ.I 2013 b 0 = nI N ∧ ∀ j, j < nMe σ k → (σ.B 1206 (33 * k + j) 0 = true → BrC σ P b N (33 * k + j)) ∧ (σ.B 1206 (33 * k + j) 0 = false → ((σ.I 1200 (33 * k + j) 0 = 1 ∧ σ.B 1205 (33 * k + j) 0 = false) ∨ σ.I 1200 (33 * k + j) 0 = 2 ∨ σ.I 1200 (33 * k + j) 0 = 3) → BdC σ P b N k (33 * k + j)) ∧ (σ.I 1200 (33 * k + j) 0 = 0 → rLf (P.1 (33 * k + j)) = false → (σ.B 1203 (33 * k + j) 0 = false → FdC σ P b N (33 * k + j)) ∧ (σ.B 1203 (33 * k + j) 0 = true → FsCd σ P b N (33 * k + j))) ∧ (σ.I 1200 (33 * k + j) 0 = 0 → rLf (P.1 (33 * k + j)) = true → σ.I 1219 (33 * k + j) 0 = -2)
/-- all that is known of the world's code -/
def WCo (σ : Sg) (P : Pg) : Prop := WMa σ P ∧ MeE σ ∧ MeB σ ∧ MeC σ P
section CUP
variable {l : Launch} {G : Gl} {d : Nat} {σ : Sg} {P : Pg} {fl : Nat} {Q : Outcome → Sg → Prop} {C : CalF} {S : StaF}
variable {M : MSt} {a : Nat} {S0 : Bw} {m k b j N : Nat} {ic : Bool} {fs rest : List Fr}
theorem WMa.nbr (hM : WMa σ P) (hk : k ∈ wKs σ 0) (nb : ¬ σ.I 1101 k 0 = 26) (hj : j < nMe σ k) (h1 : ¬ σ.I 1200 (33 * k + j) 0 = 1) : σ.B 1206 (33 * k + j) 0 = false := sorry
/-- what is known besides, of a body -/
theorem ssc_of (H : SiC l G d σ P fl C S a S0 (33 * k + j) k b fs rest) (h2a : fs.length + 2 ≤ 2 * a) (hk : k ∈ wKs σ 0) (nb : ¬ σ.I 1101 k 0 = 26) (hj : j < nMe σ k) {Γ : Nat → Int64} {st : Bool} (h0n : st = false → 0 < nLo σ (33 * k + j)) (hnm : nLo σ (33 * k + j) ≤ 310) (h20 : σ.I 1220 (33 * k + j) 0 = nI (nLo σ (33 * k + j))) (hN : σ.I 2013 b 0 = nI N) (hN1 : N ≤ 100) (hFd : ∀ j, j < nMe σ k → fdF σ P (33 * k + j) → FdC σ P b N (33 * k + j)) : SsC l G d σ fl Q a S0 (33 * k + j) k b ic fs rest Γ st (fsR σ P k (nMe σ k) 0) (ffA σ P C S k) N := sorry
/-- a member runs as rnM says -/
theorem run_M (H : SiC l G d σ P fl C S (a + 1) S0 m k b fs rest) (hMc : MeC σ P) {as : List Int32} (hca : CaH σ M m as) (hmk : mOf σ m = k) (hI : MInv σ M) (h2a : fs.length ≤ 2 * a)
    (h : KO (rnM σ P C S m as M) (fun t w => Lpv l G (d + 1) σ fl Q (t, a, pvS (σ.L 1207 m 0) w S0 fs, pvF (σ.L 1207 m 0) w fs) w) (fun t ob => Uwq l G d σ fl Q (t, a, S0, fs) ob) (Fq σ S0 rest Q)) : Lpq l G (d + 1) σ fl Q (M, a + 1, S0, (m, cdAt σ m, true, envA as, []) :: fs) := sorry
/-- calls of a level -/
noncomputable def calU (σ : Sg) (P : Pg) (C : CalF) (S : StaF) : CalF := fun m as s => if s.sp = 20000 then rzf s 14 else rnM σ P C S m as (s.wSp (s.sp + 1))
theorem cal_up (hG : GOK G) (hd : 142 ≤ d) (hW : WCo σ P) (hC : CaK σ C) (hS : StK σ S) (ha : a < 24) (hSt : ∀ d', d - 2 ≤ d' → StC l G d' σ S (a + 1)) (hCs : CalS l G d σ C (a + 1)) : CalS l G d σ (calU σ P C S) a := sorry
end CUP
