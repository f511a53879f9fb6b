/-! THE MODEL's MACHINE: a run. -/
/-- stamps of faces -/
def FSs (s : Sg) (n : Nat) : Prop := s.I 2271 0 0 = nI n ∧ ∀ f, f < 216 → ∃ m, m ≤ n ∧ s.I 2270 0 f = nI m
/-- what a run says -/
def rnN (r : Rz Int32) : Int32 := match r.2 with
  | .ok _ => 1
  | .error x => if x.1 = true then 2 else -10 - x.2
section MRN
variable {l : Launch} {G : Gl} {d : Nat} {τ s t : Sg} {P : Pg} {M : MSt} {k n0 : Nat} {Q : Outcome → Sg → Prop}
/-- the state when it begins -/
abbrev rnS (s : Sg) : Sg := sI (sI (sI (sI (sI (sI (sI (sI s 2263 0 0 0) 2269 0 0 0) 2267 0 0 0) 2262 0 0 0) 2255 0 0 0) 2261 0 0 0) 2273 0 0 0) 2264 0 0 0
theorem rnS_o {c j : Nat} (h : c ≠ 2263 ∧ c ≠ 2269 ∧ c ≠ 2267 ∧ c ≠ 2262 ∧ c ≠ 2255 ∧ c ≠ 2261 ∧ c ≠ 2273 ∧ c ≠ 2264) : (rnS s).I c 0 j = s.I c 0 j := sorry
theorem rn_beg (hm : MMm τ s M) (hs : SIv s) (hn : FSs s n0) (hn0 : n0 < 2 ^ 29) : MQst τ (ghS s (n0 + 64)) ((M.wOu []).wSp 0) 0 0 0 0 0 (rnS s) := sorry
/-- what is left of a run -/
def RnD (τ s : Sg) (n0 : Nat) (R : Rz Int32) (t : Sg) : Prop := (FQm s t ∧ MMm τ t R.1 ∧ SIv t ∧ ∃ n, n ≤ n0 + 64 ∧ FSs t n) ∧ t.I 2267 0 0 = rzg R
theorem RnD.of {R : Rz Int32} {N : MSt} {a ct tt ft : Nat} {st : Int32} (hn0 : n0 < 2 ^ 29) (h : MQst τ (ghS s (n0 + 64)) N a st ct tt ft t) (e : R.1 = N) (hg : t.I 2267 0 0 = rzg R) : RnD τ s n0 R t := sorry
theorem RnD.put {R : Rz Int32} {v : Int32} {N : MSt} {a ct tt ft : Nat} {st : Int32} (hn0 : n0 < 2 ^ 29) (h : MQst τ (ghS s (n0 + 64)) N a st ct tt ft t) (e : R.1 = N) (hg : v = rzg R) : RnD τ s n0 R (sI t 2267 0 0 v) := sorry
/-- THE MODEL's RUN, from the start on -/
theorem sp_mrun (hG : GOK G) (hd : 1510 ≤ d) (hK : KnT τ s P) (hm : MMm τ s M) (hs : SIv s) (hn : FSs s n0) (hn0 : n0 < 2 ^ 29) {j : Nat} (hk : k ∈ wKs τ 0) (nb : ¬ τ.I 1101 k 0 = 26) (hj : j < nMe τ k) (h1 : τ.I 1200 (33 * k + j) 0 = 1) (h5 : τ.B 1205 (33 * k + j) 0 = false) (h3 : τ.B 1203 (33 * k + j) 0 = true) (h0 : nPa τ (33 * k + j) = 0) (hI : MInv τ ((M.wOu []).wSp 0)) (H : ∀ t, RnD τ s n0 (mcR τ P k (33 * k + j) M) t → Q (.returned (some (.int (rnN (mcR τ P k (33 * k + j) M))))) t) : CT l G yX11_classOfMember (ws_ yX11_classOfMember cX11_classOfMember 2 (some .int)) d [.ref (G.adr 11 0), .int (nI (34 * cM k + j))] (rnS s) (oI (fun v_4 σ_3 => CT l G yX11_start (ws_ yX11_start cX11_start 4 none) d [.ref (G.adr 11 0), .int v_4] σ_3 (oV (fun σ_5 => ((¬ (σ_5.I 2264 0 0) = 0) → (wq_X11_run_86 l G d 0 Q 0 σ_5)) ∧ (((σ_5.I 2264 0 0) = 0) → (CT l G yX11_invoke (ws_ yX11_invoke cX11_invoke 7 (some .int)) d [.ref (G.adr 11 0), .int (nI (34 * cM k + j)), .int 0, .int 0] σ_5 (oI (fun v_7 σ_6 => wq_X11_run_86 l G d 0 Q v_7 σ_6) (fun x σ => Q (.threw x) σ))))) (fun x σ => Q (.threw x) σ))) (fun x σ => Q (.threw x) σ)) := sorry
end MRN
