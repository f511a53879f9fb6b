/-! Judging, the model: what stands above a method. -/
/-- the methods of class c, from the j-th member on, that stand above m in class k -/
def abF (τ : Sg) (k m c : Nat) : Nat → Nat → List Nat
  | 0, _ => []
  | n + 1, j => if jAb τ k (33 * c + j) m = true then (33 * c + j) :: abF τ k m c n (j + 1) else abF τ k m c n (j + 1)
def abC (τ : Sg) (k m c : Nat) : List Nat := abF τ k m c (nMe τ c) 0
/-- a row of members of the model, and how many -/
def ARow (ρ : Sg) (L : List Nat) : Prop := ρ.I 2204 0 0 = nI L.length ∧ ∀ j, j < L.length → (L[j]?).map (fun o => nI (mM o)) = some (ρ.I 2203 0 j)
theorem ARow.push {ρ : Sg} {L : List Nat} (h : ARow ρ L) (o : Nat) : ARow (sI (sI ρ 2203 0 L.length (nI (mM o))) 2204 0 0 (nI (L.length + 1))) (L ++ [o]) := sorry
def pAb (c _i : Nat) : Bool := rg 2202 2204 c
theorem pAb_s (c i : Nat) (h : scM c = true) : pAb c i = false := sorry
theorem mM_lt {o : Nat} (h : o / 33 < cnt 1) : mM o < 7344 := sorry
theorem abF_any {τ : Sg} {k m c : Nat} {p : Nat → Bool} : ∀ (n j : Nat), (abF τ k m c n j).any p = fany (fun i => jAb τ k (33 * c + i) m && p (33 * c + i)) n j := sorry
theorem abF_in {τ : Sg} {k m c : Nat} : ∀ (n j : Nat), ∀ o, o ∈ abF τ k m c n j → ∃ i, j ≤ i ∧ i < j + n ∧ o = 33 * c + i ∧ jAb τ k (33 * c + i) m = true := sorry
/-- a class has one method of a name and params but bridges -/
def UqM (τ : Sg) (c : Nat) : Prop := ∀ i j, i < nMe τ c → j < nMe τ c → mAlk τ (33 * c + i) (33 * c + j) = true → τ.B 1206 (33 * c + i) 0 = false → τ.B 1206 (33 * c + j) 0 = false → i = j
theorem mAlk_iff {σ : Sg} {a b : Nat} : mAlk σ a b = true ↔ σ.I 1200 a 0 = 1 ∧ σ.I 1200 b 0 = 1 ∧ σ.L 1201 a 0 = σ.L 1201 b 0 ∧ mPar σ a b = true := sorry
theorem jAb_two {τ : Sg} {k m o p : Nat} (h1 : jAb τ k o m = true) (h2 : jAb τ k p m = true) : mAlk τ o p = true ∧ τ.B 1206 o 0 = false ∧ τ.B 1206 p 0 = false := sorry
theorem abF_1 {τ : Sg} {k m c : Nat} (hU : UqM τ c) : ∀ (n j : Nat), j + n ≤ nMe τ c → (abF τ k m c n j).length ≤ 1 := sorry
theorem abC_1 {τ : Sg} {k m c : Nat} (hU : UqM τ c) : (abC τ k m c).length ≤ 1 := sorry
section SPX
variable {l : Launch} {G : Gl} {d : Nat}
theorem MKm.mx {p : Nat → Nat → Bool} {τ σ ρ : Sg} {c : Nat} (hp : ∀ c i, scM c = true → p c i = false) (h : MKm τ σ c) : MKm τ (mix p σ ρ) c := sorry
theorem MSg.mx {p : Nat → Nat → Bool} {τ σ ρ : Sg} {m q : Nat} (hp : ∀ c i, scM c = true → p c i = false) (h : MSg τ σ m q) : MSg τ (mix p σ ρ) m q := sorry
theorem MK1.mx {p : Nat → Nat → Bool} {τ σ ρ : Sg} {c : Nat} (hp : ∀ c i, scM c = true → p c i = false) (h : MK1 τ σ c) : MK1 τ (mix p σ ρ) c := sorry
theorem sp_X11_aboveIn (hG : GOK G) {τ σ : Sg} {k m qm c : Nat} {L : List Nat} (hd : 4 ≤ d) (hS : Shp τ) (hc : c < cnt 1) (hk : k < cnt 1) (kc : MK1 τ σ c) (kk : MK1 τ σ k) (pc : KPk τ c) (pk : KPk τ k) (hKm : MKm τ σ c) (hof : OfK τ c) (hm : MSg τ σ m qm) (hms : τ.I 1200 m 0 = 1) (hac : ∀ j, j < nMe τ c → ∃ a, a < 4 ∧ τ.I 1202 (33 * c + j) 0 = nI a) (hR : ARow σ L) (hL : L.length + (abC τ k m c).length ≤ 432) {x y z : Int32} (hx : x = nI (cM c)) (hy : y = nI qm) (hz : z = nI (cM k)) : CT l G yX11_aboveIn (ws_ yX11_aboveIn cX11_aboveIn 7 none) d [.ref (G.adr 11 0), .int x, .int y, .int z] σ (rV (fun s => ∃ ρ, s = mix pAb σ ρ ∧ ARow ρ (L ++ abC τ k m c))) := sorry
theorem sp_X11_isAgainst (hG : GOK G) {τ σ : Sg} {m o qm qo : Nat} (hd : 6 ≤ d) (hU : MWd τ σ 1 (wKs τ 1)) (hs : SIv σ) (hm : MM τ σ m qm) (ho : MM τ σ o qo) (h2 : ¬ τ.L 1207 o 0 = 2) {x y : Int32} (hx : x = nI qm) (hy : y = nI qo) : CT l G yX11_isAgainst (ws_ yX11_isAgainst cX11_isAgainst 3 (some .boolean)) d [.ref (G.adr 11 0), .int x, .int y] σ (rZ (jCf τ m o) (fun s => ∃ ρ, s = mix pN σ ρ ∧ SIv ρ)) := sorry
end SPX
