/-! LINKHOUSE's MACHINE: classes are linked. -/
section LKM
variable {l : Launch} {G : Gl} {d : Nat} {σ s : Sg} {P : Pg} {k : Nat} {F : FSt}
/-- columns of the linker change -/
theorem MRl.lp {p : Nat → Nat → Bool} {ρ : Sg} {st : LSt} (h : MRl σ F s) (hp : ∀ c i, p c i = true → (1303 < c ∧ c ≤ 1807) ∧ pMu c i = true) (hq : ∀ c, 1800 < c → c ≤ 1803 → p c 1 = true) (hL : LSR ρ 1 st) : MRl σ (F.1.wLs st, F.2) (mix p s ρ) := sorry
theorem pK_w {c i : Nat} (h : pK 1 c i = true) : (1303 < c ∧ c ≤ 1807) ∧ pMu c i = true := sorry
theorem pK_y {c : Nat} (h1 : 1800 < c) (h2 : c ≤ 1803) : pK 1 c 1 = true := sorry
theorem pKH_w {c i : Nat} (h : pKH 1 c i = true) : (1303 < c ∧ c ≤ 1807) ∧ pMu c i = true := sorry
theorem pKH_y {c : Nat} (h1 : 1800 < c) (h2 : c ≤ 1803) : pKH 1 c 1 = true := sorry
theorem wLd_se (h : stat s = stat σ) {st : LSt} : wLd s k st = wLd σ k st := sorry
/-- a class is loaded -/
theorem sp_ld9 (hG : GOK G) (hd : 133 ≤ d) (hM : WMa σ P) (h : MRl σ F s) (hL : LOK F.1.ls) (hC : LCL σ F.1.ls) (hk : k ∈ wKs σ 0) : CT l G yX8_load (ws_ yX8_load cX8_load 4 (some .int)) d [.ref (G.adr 8 1), rv G 1 (some k)] s (rI (wLd σ k F.1.ls).1 (fun t => MRl σ (F.1.wLs (wLd σ k F.1.ls).2, F.2) t)) := sorry
/-- it is told -/
theorem sp_tell (hG : GOK G) (hd : 1 ≤ d) {v : Int32} (h : MRl σ F s) (hk : k < 194) : CT l G yX8_tellEvent (ws_ yX8_tellEvent cX8_tellEvent 3 none) d [.ref (G.adr 8 1), rv G 1 (some k), .int v] s (rV (fun t => MRl σ (F.1.wLs (evt σ F.1.ls k v), F.2) t)) := sorry
theorem ftd_se (h : stat s = stat σ) {u : Nat} {st : LSt} : ftd s u st = ftd σ u st := sorry
theorem cbc_st' {u : Nat} {st : LSt} : cbc (stat σ) u st = cbc σ u st := sorry
theorem cbc_se (h : stat s = stat σ) {u : Nat} {st : LSt} : cbc s u st = cbc σ u st := sorry
/-- a use fits -/
theorem sp_ft9 (hG : GOK G) (hd : 135 ≤ d) (hM : WMa σ P) {u : Nat} (h : MRl σ F s) (hL : LOK F.1.ls) (hC : LCL σ F.1.ls) (hu : u < 16002) : CT l G yX8_fitted (ws_ yX8_fitted cX8_fitted 5 (some .int)) d [.ref (G.adr 8 1), rv G 7 (some u)] s (rI (ftd σ u F.1.ls).1 (fun t => MRl σ (F.1.wLs (ftd σ u F.1.ls).2, F.2) t)) := sorry
theorem sp_cb9 (hG : GOK G) (hd : 135 ≤ d) (hM : WMa σ P) {u : Nat} (h : MRl σ F s) (hL : LOK F.1.ls) (hC : LCL σ F.1.ls) (hu : u < 16002) : CT l G yX8_canBeCaught (ws_ yX8_canBeCaught cX8_canBeCaught 3 (some .int)) d [.ref (G.adr 8 1), rv G 7 (some u)] s (rI (cbc σ u F.1.ls).1 (fun t => MRl σ (F.1.wLs (cbc σ u F.1.ls).2, F.2) t)) := sorry
/-- what is linked, what is started changes -/
theorem MRm.put2 {M M' : MSt} {c j : Nat} {v : Int32} (h : MRm s M) (hc : c = 1902 ∨ c = 1903) (h1 : M'.ls = M.ls) (h4 : M'.2.2.2 = M.2.2.2) (h2 : ∀ i, i < 64 → (sI s c 0 j v).I 1902 0 i = M'.lk i) (h3 : ∀ i, i < 64 → (sI s c 0 j v).I 1903 0 i = M'.sr i) : MRm (sI s c 0 j v) M' := sorry
theorem MRl.plk {j : Nat} {v : Int32} (h : MRl σ F s) : MRl σ (F.1.wLk (setN F.1.lk j v), F.2) (sI s 1902 0 j v) := sorry
theorem MRl.psr {j : Nat} {v : Int32} (h : MRl σ F s) : MRl σ (F.1.wSr (setN F.1.sr j v), F.2) (sI s 1903 0 j v) := sorry
/-! whether a final one is overridden -/
/-- one class of the row -/
noncomputable def brK (σ : Sg) (m c : Nat) : Bool := match kMet σ c m with
  | none => false
  | some o => mObj σ o && (σ.B 1204 o 0 && wOv σ 0 m o)
theorem mObj_se (h : stat s = stat σ) {o : Nat} : mObj s o = mObj σ o ∧ s.B 1204 o 0 = σ.B 1204 o 0 := sorry
theorem kMet_se (h : stat s = stat σ) {q m : Nat} : kMet s q m = kMet σ q m := sorry
theorem wOv_se (h : stat s = stat σ) {w n m : Nat} : wOv s w n m = wOv σ w n m := sorry
theorem nMe_se (h : stat s = stat σ) {k : Nat} : nMe s k = nMe σ k ∧ s.I 1117 k 0 = σ.I 1117 k 0 := sorry
theorem Liv.st (h : stat s = stat σ) {m : Nat} (hl : Liv σ m) : Liv s m := sorry
theorem mOf_se (h : stat s = stat σ) {m : Nat} : mOf s m = mOf σ m := sorry
theorem ib_2 (hG : GOK G) (hd : 5 ≤ d) (hM : WMa σ P) {m : Nat} {r2 : Option Nat} {Q : Outcome → Sg → Prop} (hm : Liv σ m) (hm2 : m < 22404) (hQ : ∀ b t, MRl σ F t → ((∃ L, IsUp σ r2 L ∧ b = L.any (brK σ m)) → Q (.returned (some (.int (bI b)))) t)) : ∀ (L : List Nat) (c : Option Nat) (B : List Nat) (s : Sg), IsUp σ r2 (B ++ L) → IsUp σ c L → B.any (brK σ m) = false → (∀ x, x ∈ L → x < 194 ∧ ¬ mOf σ m = x) → MRl σ F s → wq_X9_isBarred_2 l G d 0 (some m) r2 Q (L.length + 1) c s := sorry
theorem IsUp.uniq : ∀ {c : Option Nat} {L M : List Nat}, IsUp σ c L → IsUp σ c M → L = M := sorry
theorem sp_isBarred (hG : GOK G) (hd : 6 ≤ d) (hM : WMa σ P) {st : LSt} (hC : LCL σ st) {j : Nat} (hk : Ldd σ st k) (hj : j < nMe σ k) (h : MRl σ F s) : CT l G yX9_isBarred (ws_ yX9_isBarred cX9_isBarred 5 (some .boolean)) d [.ref (G.adr 9 0), rv G 2 (some (33 * k + j)), rv G 1 (wPar σ 0 k)] s (rZ ((wUps σ k).tail.any (brK σ (33 * k + j))) (fun t => MRl σ F t)) := sorry
theorem kBar_eq (hM : WMa σ P) {st : LSt} (hC : LCL σ st) (hk : Ldd σ st k) : kBar σ k = fany (fun j => mObj σ (33 * k + j) && (wUps σ k).tail.any (brK σ (33 * k + j))) (nMe σ k) 0 := sorry
end LKM
