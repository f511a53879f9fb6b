/-! Judging, the model: all that stands above a method. -/
/-- what must be known of the classes U -/
def AbU (τ σ : Sg) (U : List Nat) : Prop := ∀ c, c ∈ U → c < cnt 1 ∧ MK1 τ σ c ∧ KPk τ c ∧ MKm τ σ c ∧ OfK τ c ∧ (∀ j, j < nMe τ c → ∃ a, a < 4 ∧ τ.I 1202 (33 * c + j) 0 = nI a) ∧ UqM τ c ∧ ∀ j, j < nMe τ c → ¬ τ.L 1207 (33 * c + j) 0 = 2
theorem AbU.mx {p : Nat → Nat → Bool} {τ σ ρ : Sg} {U : List Nat} (hp : ∀ c i, scM c = true → p c i = false) (h : AbU τ σ U) : AbU τ (mix p σ ρ) U := sorry
/-- all that stands above m, of class k -/
def AbL (τ : Sg) (k m : Nat) : List Nat := (jPs τ 1 k).tail.flatMap (abC τ k m) ++ (wAF τ 1 k).flatMap (abC τ k m)
theorem fm_len {f : Nat → List Nat} : ∀ {xs : List Nat}, (∀ x, x ∈ xs → (f x).length ≤ 1) → (xs.flatMap f).length ≤ xs.length := sorry
theorem fm_any {f : Nat → List Nat} {p : Nat → Bool} : ∀ {xs : List Nat}, (xs.flatMap f).any p = xs.any (fun x => (f x).any p) := sorry
theorem AbL_any {τ : Sg} {k m : Nat} (hW : WOK τ 1) (hn : ¬ wHr τ 1 k k) : (AbL τ k m).any (jCf τ m) = ((jUps τ 1 62 (wPar τ 1 k)).any (jAg τ k m) || (wAF τ 1 k).any (jAg τ k m)) := sorry
def pFa (c _i : Nat) : Bool := rg 2192 2196 c || rg 2202 2205 c
theorem pFa_iff {c i : Nat} : pFa c i = true ↔ (2192 < c ∧ c ≤ 2196) ∨ (2202 < c ∧ c ≤ 2205) := sorry
theorem pFa_s (c i : Nat) (h : scM c = true) : pFa c i = false := sorry
theorem pAb_pFa : ∀ c i, pAb c i = true → pFa c i = true := sorry
theorem pRo_pFa : ∀ c i, pRo 2205 c i = true → pFa c i = true := sorry
theorem pNF_pFa : ∀ c i, pNF 2205 c i = true → pFa c i = true := sorry
section SPX
variable {l : Launch} {G : Gl} {d : Nat}
theorem sp_X11_findAbove (hG : GOK G) {τ σ : Sg} {k m jm : Nat} {U : List Nat} (hd : 5 ≤ d) (hU : MWd τ σ 1 (k :: wKs τ 1)) (hA : AbU τ σ U) (hAk : k < cnt 1 ∧ MK1 τ σ k ∧ KPk τ k) (hkU : ∀ c, c ∈ wKs τ 1 → ¬ c = k → c ∈ U) (hn : ¬ wHr τ 1 k k) (hs : SIv σ) (hjm : jm < 33) (hm : MSg τ σ m (34 * cM k + jm)) (hms : τ.I 1200 m 0 = 1) {x : Int32} (hx : x = nI (34 * cM k + jm)) : CT l G yX11_findAbove (ws_ yX11_findAbove cX11_findAbove 6 none) d [.ref (G.adr 11 0), .int x] σ (rV (fun s => ∃ ρ, s = mix pFa σ ρ ∧ SIv ρ ∧ ARow ρ (AbL τ k m) ∧ (AbL τ k m).length ≤ 125)) := sorry
end SPX
