/-! LINKHOUSE's MACHINE: classes are linked as lnk says. -/
/-- what is linked is put -/
abbrev lkW (F : FSt) (r : LkS) : FSt := ((F.1.wLs r.1).wLk r.2, F.2)
/-- classes below height N are linked as g says -/
def LnC (l : Launch) (G : Gl) (d : Nat) (σ : Sg) (N : Nat) (g : Nat → LkS → Int32 × LkS) : Prop := ∀ (c : Nat) (F : FSt) (s : Sg), hts σ c < N → c ∈ wKs σ 0 → LkI σ (F.1.ls, F.1.lk) → MRl σ F s → CT l G yX9_link (ws_ yX9_link cX9_link 4 (some .int)) d [.ref (G.adr 9 0), rv G 1 (some c)] s (rI (g c (F.1.ls, F.1.lk)).1 (fun t => MRl σ (lkW F (g c (F.1.ls, F.1.lk)).2) t))
section LK2
variable {l : Launch} {G : Gl} {d : Nat} {σ s : Sg} {P : Pg} {k N : Nat} {F : FSt} {g : Nat → LkS → Int32 × LkS} {Q : Outcome → Sg → Prop} {r2 : Option Nat}
theorem Shp.fc_se (hM : WMa σ P) (h : stat s = stat σ) (hk : k < 194) : s.I 1109 k 0 = nI (nFc σ k) ∧ nFc σ k ≤ 4 := sorry
theorem L1108_se (h : stat s = stat σ) {j : Nat} : s.L 1108 k j = σ.L 1108 k j := sorry
/-- its faces -/
theorem lh_26 (hG : GOK G) (hd : 1 ≤ d) (hM : WMa σ P) (hg : LnC l G d σ N g) (hgo : ∀ c s, hts σ c < N → c ∈ wKs σ 0 → LkI σ s → LnR σ c s (g c s)) (hN : hts σ k ≤ N) : ∀ (n j : Nat) (r : LkS) (s : Sg), j + n = nFc σ k → Ldd σ r.1 k → LkI σ r → MRl σ (lkW F r) s → (∀ t, MRl σ (lkW F (lkFs σ g k n j r).2) t → wq_X9_linkHead_64 l G d 0 (some k) Q r2 (lkFs σ g k n j r).1 t) → wq_X9_linkHead_26 l G d 0 (some k) Q (n + 2) r2 0 (nI j) s := sorry
/-- its uses -/
theorem lh_124 (hG : GOK G) (hd : 135 ≤ d) (hM : WMa σ P) (hk : k ∈ wKs σ 0) (nb : ¬ σ.I 1101 k 0 = 26) {b n1 : Nat} (hb : σ.R 1126 k 0 = some b) (hb16 : b < 16) (h20 : σ.I 1120 k 0 = nI n1) (hn1 : n1 ≤ 1000) : ∀ (n i : Nat) (r : LkS) (s : Sg), i + n = n1 → LkI σ r → MRl σ (lkW F r) s → (∀ t, MRl σ (lkW F ((lkUs σ n (1000 * b + i) r.1).2, r.2)) t → Q (.returned (some (.int (lkUs σ n (1000 * b + i) r.1).1))) t) → wq_X9_linkHead_124 l G d 0 (some k) Q (n + 2) 0 (nI i) s := sorry
/-- its members -/
theorem lh_73 (hG : GOK G) (hd : 6 ≤ d) (hM : WMa σ P) {st : LSt} (hC : LCL σ st) (hk : Ldd σ st k) (h3 : ∀ t, MRl σ F t → kBar σ k = true → Q (.returned (some (.int 3))) t) (h1 : ∀ t, MRl σ F t → kBar σ k = false → ∃ n, wq_X9_linkHead_124 l G d 0 (some k) Q n 0 (t.I 1119 k 0) t) : ∀ (n j : Nat) (s : Sg), j + n = nMe σ k → (kBar σ k = fany (fun j => mObj σ (33 * k + j) && (wUps σ k).tail.any (brK σ (33 * k + j))) n j) → MRl σ F s → wq_X9_linkHead_73 l G d 0 (some k) Q (n + 1) (wPar σ 0 k) 0 (nI j) s := sorry
/-- a class's head is linked -/
theorem sp_linkHead (hG : GOK G) (hd : 136 ≤ d) (hM : WMa σ P) (hg : LnC l G (d - 1) σ N g) (hgo : ∀ c s, hts σ c < N → c ∈ wKs σ 0 → LkI σ s → LnR σ c s (g c s)) (hN : hts σ k ≤ N) {r : LkS} (hk : Ldd σ r.1 k) (nb : ¬ σ.I 1101 k 0 = 26) (hI : LkI σ r) (h : MRl σ (lkW F r) s) : CT l G yX9_linkHead (ws_ yX9_linkHead cX9_linkHead 6 (some .int)) d [.ref (G.adr 9 0), rv G 1 (some k)] s (rI (lkH σ g k r).1 (fun t => MRl σ (lkW F (lkH σ g k r).2) t)) := sorry
/-- CLASSES ARE LINKED AS lnk SAYS -/
theorem ln_all (hG : GOK G) (hM : WMa σ P) : ∀ (n d : Nat), 136 + 2 * n ≤ d → LnC l G d σ n (lnk σ n) := sorry
end LK2
