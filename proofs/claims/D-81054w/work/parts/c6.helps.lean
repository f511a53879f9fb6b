/-! LINKHOUSE's MACHINE: what its codes call. -/
section HLP
variable {l : Launch} {G : Gl} {d : Nat} {σ s : Sg} {P : Pg}
theorem WOK.st (h : stat s = stat σ) {w : Nat} (hw : WOK σ w) : WOK s w := sorry
theorem Shp.st (h : stat s = stat σ) (hw : Shp σ) : Shp s := sorry
theorem WNO.st (h : stat s = stat σ) (hw : WNO σ) : WNO s := sorry
theorem MOK.st (h : stat s = stat σ) (hw : MOK σ) : MOK s := sorry
theorem BIK.st (h : stat s = stat σ) (hw : BIK σ) : BIK s := sorry
theorem wFind_se (h : stat s = stat σ) {w : Nat} {nm : Int64} : wFind s w nm = wFind σ w nm := sorry
theorem wPar_se (h : stat s = stat σ) {w k : Nat} : wPar s w k = wPar σ w k := sorry
theorem wHb_se (h : stat s = stat σ) {w a b : Nat} : wHb s w a b = wHb σ w a b := sorry
/-- world's columns do not touch what runs -/
theorem MRm.w {p : Nat → Nat → Bool} {M : MSt} {s' : Sg} (h : MRm s M) (hF : Fl p s s') (hp : ∀ c i, p c i = true → 1303 < c ∧ c ≤ 1313) : MRm s' M := sorry
/-- what is loaded changes -/
theorem MRm.lo {p : Nat → Nat → Bool} {M : MSt} {s' : Sg} {st : LSt} (h : MRm s M) (hF : Fl p s s') (hp : ∀ c i, p c i = true → 1303 < c ∧ c ≤ 1807) (hL : LSR s' 1 st) : MRm s' (M.wLs st) := sorry
theorem pW_w {c i : Nat} (h : pW c i = true) : 1303 < c ∧ c ≤ 1313 := sorry
theorem pH_w {c i : Nat} (h : pH c i = true) : 1303 < c ∧ c ≤ 1313 := sorry
theorem pC_w {c i : Nat} (h : pC c i = true) : 1303 < c ∧ c ≤ 1313 := sorry
theorem pMu_w {c i : Nat} (h : 1303 < c ∧ c ≤ 1313) : pMu c i = true := sorry
/-- world's own columns change -/
theorem MRl.w {p : Nat → Nat → Bool} {F : FSt} {ρ : Sg} (h : MRl σ F s) (hp : ∀ c i, p c i = true → 1303 < c ∧ c ≤ 1313) : MRl σ F (mix p s ρ) := sorry
theorem pM_w {c i : Nat} (h : pM 1 c i = true) : (1303 < c ∧ c ≤ 1807) ∧ pMu c i = true := sorry
theorem MRl.lo {F : FSt} {ρ : Sg} {st : LSt} (h : MRl σ F s) (hL : LSR (mix (pM 1) s ρ) 1 st) : MRl σ (F.1.wLs st, F.2) (mix (pM 1) s ρ) := sorry
/-! fields -/
theorem IsUp.in {c : Option Nat} : ∀ {L : List Nat}, IsUp σ c L → ∀ k, c = some k → k ∈ L := sorry
section FO
variable {i : Nat}
/-- parents' fields are reckoned up -/
theorem fo_4 (hG : GOK G) (hd : 2 ≤ d) (hW : WOK s 0) {r1 : Option Nat} {Q : Outcome → Sg → Prop} {y : Int32} (hQ : Q (.returned (some (.int y))) s) : ∀ (L : List Nat) (c : Option Nat) (x : Nat), IsUp s c L → (∀ k, k ∈ L → k < 194 ∧ ∃ n, s.I 1123 k 0 = nI n ∧ n < 2 ^ 31) → y = nI (x + fdS s L) → wq_X9_fieldsOf_4 l G d 0 r1 Q (L.length + 1) (nI x) c s := sorry
theorem so_17 (hG : GOK G) (hd : 2 ≤ d) (hW : WOK s 0) {r1 : Option Nat} {Q : Outcome → Sg → Prop} {y : Int32} (hQ : Q (.returned (some (.int y))) s) : ∀ (L : List Nat) (c : Option Nat) (x : Nat), IsUp s c L → (∀ k, k ∈ L → k < 194 ∧ ∃ n, s.I 1123 k 0 = nI n ∧ n < 2 ^ 31) → y = nI (x + fdS s L) → wq_X9_slotOf_17 l G d 0 r1 Q (L.length + 1) (nI x) c s := sorry
end FO
end HLP
