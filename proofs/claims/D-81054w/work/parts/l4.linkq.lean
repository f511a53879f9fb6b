/-! THE MODEL's MACHINE: classes are linked as lnk says. -/
/-- what is linked is put -/
abbrev lkM (M : MSt) (r : LkS) : MSt := (M.wLs r.1).wLk r.2
/-- what linking leaves -/
def oLk (τ σ : Sg) (M : MSt) (r : Int32 × LkS) (a : Nat) (st : Int32) (ct tt ft : Nat) (s : Sg) : Outcome → Sg → Prop := rI r.1 (fun t => MQst τ σ (lkM M r.2) a st ct tt ft t ∧ KpA s t)
/-- classes below height N are linked as g says -/
def LnM (l : Launch) (G : Gl) (d : Nat) (τ σ : Sg) (N : Nat) (g : Nat → LkS → Int32 × LkS) : Prop := ∀ (c : Nat) (M : MSt) (a : Nat) (st : Int32) (ct tt ft : Nat) (s : Sg), hts τ c < N → c ∈ wKs τ 0 → MInv τ M → MQst τ σ M a st ct tt ft s → CT l G yX11_link (ws_ yX11_link cX11_link 4 (some .int)) d [.ref (G.adr 11 0), .int (nI (cM c))] s (oLk τ σ M (g c (M.ls, M.lk)) a st ct tt ft s)
/-- the uses of a class lie side by side in its slot -/
def UsQ (τ σ : Sg) : Prop := ∀ k, k ∈ wKs τ 0 → ¬ τ.I 1101 k 0 = 26 → cM k / 12 = kB τ k ∧ kB τ k < 16 ∧ ∃ N, N ≤ 1800 ∧ σ.I 2218 0 (kB τ k) = nI N ∧ (τ.I 1120 k 0).toNatClampNeg ≤ N ∧ ∀ i, i < N → (σ.I 2220 0 (1800 * kB τ k + i) = nI (cM k) ↔ (τ.I 1119 k 0).toNatClampNeg ≤ i ∧ i < (τ.I 1120 k 0).toNatClampNeg)
theorem nI_ixU {x y : Nat} : nI x * 1800 + nI y = nI (1800 * x + y) := sorry
section LKQ
variable {l : Launch} {G : Gl} {d : Nat} {τ σ s t g0 : Sg} {P : Pg} {k N : Nat} {M : MSt} {a ct tt ft : Nat} {st : Int32} {g : Nat → LkS → Int32 × LkS} {Q : Outcome → Sg → Prop} {D : Nat → Prop}
/-- its faces -/
theorem lw_25 (hG : GOK G) (hd : 2 ≤ d) (hW : WQ τ σ P) (hg : LnM l G d τ σ N g) (hgo : ∀ c s, hts τ c < N → c ∈ wKs τ 0 → LkI τ s → LnR τ c s (g c s)) (hN : hts τ k ≤ N) (hI : MInv τ M) : ∀ (n j : Nat) (r : LkS) (s : Sg), j + n = nFc τ k → Ldd τ r.1 k → LkG τ (AbP τ k) (M.ls, M.lk) r → MQst τ σ (lkM M r) a st ct tt ft s → KpA g0 s → (∀ t, MQst τ σ (lkM M (lkFs τ g k n j r).2) a st ct tt ft t → KpA g0 t → wq_X11_linkWith_66 l G d 0 (nI (cM k)) Q (lkFs τ g k n j r).1 t) → wq_X11_linkWith_25 l G d 0 (nI (cM k)) Q (n + 2) 0 (nI j) s := sorry
/-- its uses -/
theorem lw_94 (hG : GOK G) (hd : 143 ≤ d) (hW : WQ τ σ P) (nb : ¬ τ.I 1101 k 0 = 26) {b n0 n1 N : Nat} (hb : kB τ k = b) (hb16 : b < 16) (h01 : n0 ≤ n1) (h1N : n1 ≤ N) (hN : N ≤ 1800) (e0 : (τ.I 1119 k 0).toNatClampNeg = n0) (e1 : (τ.I 1120 k 0).toNatClampNeg = n1) (e18 : σ.I 2218 0 b = nI N) (e20 : ∀ i, i < N → (σ.I 2220 0 (1800 * b + i) = nI (cM k) ↔ n0 ≤ i ∧ i < n1)) (hI : MInv τ M) : ∀ (m i : Nat) (r : LkS) (s : Sg), i + m = N → Ldd τ r.1 k → LkG τ D (M.ls, M.lk) r → MQst τ σ (lkM M r) a st ct tt ft s → KpA g0 s → (∀ t, MQst τ σ (lkM M ((lkUs τ (n1 - max i n0) (1000 * b + max i n0) r.1).2, r.2)) a st ct tt ft t → KpA g0 t → Q (.returned (some (.int (lkUs τ (n1 - max i n0) (1000 * b + max i n0) r.1).1))) t) → wq_X11_linkWith_94 l G d 0 (nI (cM k)) Q (m + 2) 0 (nI b) (nI (1800 * b + i)) s := sorry
end LKQ
