/-! Judging, the model: whether something is left bare, all classes. -/
def pLm (c j : Nat) : Bool := pLo c j || Nat.beq c 2206
theorem pLm_iff {c j : Nat} : pLm c j = true ↔ pLo c j = true ∨ c = 2206 := sorry
theorem pLm_no {c j : Nat} (h : c ≤ 2119 ∨ (2121 < c ∧ c ≤ 2192) ∨ (2202 < c ∧ ¬ c = 2206)) : pLm c j = false := sorry
theorem pLo_pLm : ∀ c j, pLo c j = true → pLm c j = true := sorry
theorem stJ_lm {σ s : Sg} (h : FJ pLm σ s) : stJ s = stJ σ := sorry
theorem pRo_pLm : ∀ c i j, pLm c j = false → pRo 2206 c i = false := sorry
theorem pNF_pLm : ∀ c i j, pLm c j = false → pNF 2206 c i = false := sorry
theorem CRow.lo {σ s : Sg} {L : List Nat} (h : CRow σ 2206 L) (hF : FJ pLo σ s) : CRow s 2206 L := sorry
theorem FLq_e {α : Type} {σ s : Sg} {T : Nat → Tk} {r : PR α} (e1 : s.I 2120 0 0 = σ.I 2120 0 0) (e2 : s.I 2121 0 0 = σ.I 2121 0 0) (h : FLq σ T r) : FLq s T r := sorry
theorem SIv_Ro {σ ρ : Sg} (h : SIv σ) : SIv (mix (pRo 2206) σ ρ) := sorry
theorem SIv_NF {σ ρ : Sg} (h : SIv ρ) : SIv (mix (pNF 2206) σ ρ) := sorry
theorem all_iff {p : Nat → Bool} {R L : List Nat} (h : ∀ x, x ∈ R ↔ x ∈ L) : L.all p = R.all p := sorry
/-- what must be known of the classes of b -/
def LkH (τ σ : Sg) (b nk : Nat) (T : Nat → Tk) : Prop := OvU τ σ 1 ∧ (b < 16 ∧ nk ≤ 12 ∧ σ.I 2119 0 0 = nI b ∧ σ.I 2123 0 b = nI nk) ∧ (∀ k, k < nk → 12 * b + k ∈ wKs τ 1 ∧ ¬ wHr τ 1 (12 * b + k) (12 * b + k) ∧ σ.I 2125 0 (12 * b + k) = nI (T (tkN (τ.I 1124 (12 * b + k) 0))).2.2.1 ∧ (τ.B 1104 (12 * b + k) 0 = true → τ.B 1105 (12 * b + k) 0 = false)) ∧ ∀ c, c ∈ wKs τ 1 → KSf τ c
section SPX
variable {l : Launch} {G : Gl} {d : Nat}
theorem sp_X11_lacking (hG : GOK G) {τ σ : Sg} {b nk : Nat} {T : Nat → Tk} (hd : 8 ≤ d) (hH : LkH τ σ b nk T) (hI : SIv σ) (hq : FLq σ T (.ok ())) : CT l G yX11_lacking (ws_ yX11_lacking cX11_lacking 6 none) d [.ref (G.adr 11 0)] σ (rV (fun u => FJ pLm σ u ∧ SIv u ∧ FLq u T (jFor (fun kk => jLf τ (12 * b + kk)) nk 0))) := sorry
end SPX
