/-! LinkHouse judges and writes a build: the phases one behind the other. -/
theorem oV_m {K K' : Sg → Prop} {T T' : Nat → Sg → Prop} {o : Outcome} {s : Sg} (hK : ∀ s, K s → K' s) (hT : ∀ x s, T x s → T' x s) (h : oV K T o s) : oV K' T' o s := sorry
section MONO
variable {l : Launch} {G : Gl} {d i : Nat} {r1 : Option Nat} {Q Q' : Outcome → Sg → Prop}
theorem am_345 (hQ : ∀ o s, Q o s → Q' o s) : ∀ (fu : Nat) (x2 : Int32) (σ : Sg), wq_X6_all_345 l G d i r1 Q fu x2 σ → wq_X6_all_345 l G d i r1 Q' fu x2 σ := sorry
theorem am_309 (hQ : ∀ o s, Q o s → Q' o s) : ∀ (fu : Nat) (x2 : Int32) (σ : Sg), wq_X6_all_309 l G d i r1 Q fu x2 σ → wq_X6_all_309 l G d i r1 Q' fu x2 σ := sorry
theorem am_273 (hQ : ∀ o s, Q o s → Q' o s) : ∀ (fu : Nat) (x2 : Int32) (σ : Sg), wq_X6_all_273 l G d i r1 Q fu x2 σ → wq_X6_all_273 l G d i r1 Q' fu x2 σ := sorry
theorem am_233 (hQ : ∀ o s, Q o s → Q' o s) : ∀ (fu : Nat) (x2 : Int32) (σ : Sg), wq_X6_all_233 l G d i r1 Q fu x2 σ → wq_X6_all_233 l G d i r1 Q' fu x2 σ := sorry
theorem am_195 (hQ : ∀ o s, Q o s → Q' o s) {K K' : Int32 → Sg → Prop} (hK : ∀ x s, K x s → K' x s) : ∀ (fu : Nat) (x2 x3 : Int32) (σ : Sg), wq_X6_all_195 l G d i r1 Q K fu x2 x3 σ → wq_X6_all_195 l G d i r1 Q' K' fu x2 x3 σ := sorry
theorem am_169 (hQ : ∀ o s, Q o s → Q' o s) : ∀ (fu : Nat) (x2 : Int32) (σ : Sg), wq_X6_all_169 l G d i r1 Q fu x2 σ → wq_X6_all_169 l G d i r1 Q' fu x2 σ := sorry
end MONO
/-! the phases: up to the members; above and bridges; what is left, constants, bodies -/
noncomputable def pA1 (τ0 : Sg) (b : Nat) (T : Nat → Tk) (nk : Nat) : PR Unit := bnd (jFor (fun k => jHd τ0 b (12 * b + k)) nk 0) fun _ => bnd (jFor (jHe τ0 b) nk 0) fun _ => jFor (jMs τ0 b T) nk 0
noncomputable def pA2 (τ1 : Sg) (b nk : Nat) : PR Unit := bnd (jFor (jAs τ1 b) nk 0) fun _ => jFor (jBr τ1 b) nk 0
noncomputable def pA3 (τ2 : Sg) (b nk : Nat) (tr : Nat → Nat → Tr) : PR Unit := bnd (jFor (fun kk => jLf τ2 (12 * b + kk)) nk 0) fun _ => bdA (csA b tr nk 0 τ2) b tr nk
/-- a build is judged -/
noncomputable def pAl (τ0 τ1 τ2 : Sg) (b : Nat) (T : Nat → Tk) (nk : Nat) (tr : Nat → Nat → Tr) : PR Unit := bnd (pA1 τ0 b T nk) fun _ => bnd (pA2 τ1 b nk) fun _ => pA3 τ2 b nk tr
/-- what bridges call -/
def tgF (τ : Sg) (b i j : Nat) : Nat := if τ.B 1206 (33 * (12 * b + i) + j) 0 = true then 33 * (12 * b + i) + (brT τ (12 * b + i) (33 * (12 * b + i) + j)).getD 0 else 0
/-- what must be known behind the members -/
def LA1 (τ1 : Sg) (b r nk : Nat) : Prop := Shp τ1 ∧ WOK τ1 1 ∧ (∀ k j, k < nk → j < nMe τ1 (12 * b + k) → TkB (τ1.I 1214 (33 * (12 * b + k) + j) 0) r) ∧ (∀ k, k < nk → ∀ c, c ∈ (12 * b + k) :: wKs τ1 1 → OfK τ1 c) ∧ (∀ k, k < nk → nMe τ1 (12 * b + k) ≤ 20) ∧ (∀ k, k < nk → τ1.I 1118 (12 * b + k) 0 = 0) ∧ (∀ k, k < nk → ¬ wHr τ1 1 (12 * b + k) (12 * b + k)) ∧ (∀ k, k < nk → UqM τ1 (12 * b + k)) ∧ (∀ k j, k < nk → j < nMe τ1 (12 * b + k) → τ1.B 1206 (33 * (12 * b + k) + j) 0 = false) ∧ (∀ k, k < nk → TkB (τ1.I 1124 (12 * b + k) 0) r)
/-- what must be known behind the bridges -/
def LA2 (τ0 τ2 : Sg) (b : Nat) (T : Nat → Tk) (r L nk : Nat) (tr : Nat → Nat → Tr) : Prop := MOK τ2 ∧ (∀ k, k < nk → TkB (τ2.I 1124 (12 * b + k) 0) r) ∧ (∀ k, k < nk → ∀ c, c ∈ (12 * b + k) :: wKs τ2 1 → KSf τ2 c) ∧ L ≤ r ∧ (∀ i, i < nk → TrK τ0 τ2 T L (12 * b + i) (tr i))
/-- what must be known behind the constants -/
def LA3 (τ0 τ : Sg) (b : Nat) (T : Nat → Tk) (r L nk : Nat) (tr : Nat → Nat → Tr) (A E : Nat → Nat → Nat) : Prop := (OkW τ ∧ Shp τ ∧ WOK τ 1 ∧ MOK τ) ∧ (∀ i, i < nk → wFind τ 1 (τ.L 1100 (12 * b + i) 0) = some (12 * b + i) ∧ ∀ x nm ts, x < 194 → (jCds τ (12 * b + i) x nm ts).length ≤ 1344) ∧ (∀ i, i < nk → τ.B 1106 (12 * b + i) 0 = true → TyC (τ.L 1107 (12 * b + i) 0)) ∧ (∀ i, i < nk → ∀ j, j < nFc τ (12 * b + i) → TyC (τ.L 1108 (12 * b + i) j)) ∧ (∀ i j, i < nk → j < nMe τ (12 * b + i) → LBx τ (12 * b + i) (33 * (12 * b + i) + j) (tgF τ b i j) r L (tr i j) (A i j) (E i j)) ∧ (∀ i j, i < nk → j < nMe τ (12 * b + i) → τ.B 1206 (33 * (12 * b + i) + j) 0 = false → LTr τ0 T L (tr i j) 0 1410 (τ.I 1218 (33 * (12 * b + i) + j) 0)) ∧ (∀ i j, i < nk → j ≤ nMe τ (12 * b + i) → (addL (uA τ b (tgF τ b) (jA τ b tr) i) (usM τ (12 * b + i) (tgF τ b i) (jA τ b tr i) j)).length ≤ 1000) ∧ (∀ i j, i < nk → j < nMe τ (12 * b + i) → psM τ (12 * b + i) (tgF τ b i) (jA τ b tr i) (psA τ b (tgF τ b) (jA τ b tr) i) j + clX τ (12 * b + i) (33 * (12 * b + i) + j) (tgF τ b i j) (jA τ b tr i j) (psM τ (12 * b + i) (tgF τ b i) (jA τ b tr i) (psA τ b (tgF τ b) (jA τ b tr) i) j) ≤ 6000) ∧ (∀ i j, i < nk → j < nMe τ (12 * b + i) → qsM τ (12 * b + i) (tgF τ b i) (jA τ b tr i) (psA τ b (tgF τ b) (jA τ b tr) i) (qsA τ b (tgF τ b) (jA τ b tr) i) (j + 1) ≤ 100) ∧ ∀ i j, i < nk → j < nMe τ (12 * b + i) → τ.I 1219 (33 * (12 * b + i) + j) 0 = -2 ∧ τ.I 1220 (33 * (12 * b + i) + j) 0 = 0
theorem SmJ.of_stat {τ s : Sg} (h : stat s = stat τ) : SmJ τ s := sorry
theorem scEq {τ s : Sg} (h : stat s = stat τ) {c : Nat} (hc : sc c = true) (i j : Nat) : s.I c i j = τ.I c i j ∧ s.B c i j = τ.B c i j ∧ s.L c i j = τ.L c i j ∧ s.R c i j = τ.R c i j := sorry
theorem IVm_e {τ σ s : Sg} {b nk i j : Nat} (h : stat s = stat σ) (hV : IVm τ σ b nk i j) : IVm τ s b nk i j := sorry
theorem jAs_e {σ s : Sg} {b kk : Nat} (h : stat s = stat σ) : jAs s b kk = jAs σ b kk := sorry
theorem brF_st {σ : Sg} {k m : Nat} : ∀ (os : List Nat) (Bs : BrL), brF (stat σ) k m os Bs = brF σ k m os Bs := sorry
theorem abF_st {σ : Sg} {k m c : Nat} : ∀ (n j : Nat), abF (stat σ) k m c n j = abF σ k m c n j := sorry
theorem brM_st {σ : Sg} {k m : Nat} {Bs : BrL} : brM (stat σ) k m Bs = brM σ k m Bs := sorry
theorem brA_st {σ : Sg} {k : Nat} : ∀ (n j : Nat) (Bs : BrL), brA (stat σ) k n j Bs = brA σ k n j Bs := sorry
theorem jBr_e {σ s : Sg} {b kk : Nat} (h : stat s = stat σ) : jBr s b kk = jBr σ b kk := sorry
theorem stP_st {τ s : Sg} (h : stat s = stat τ) : stP sm s = stP sm τ := sorry
section SPX
variable {l : Launch} {G : Gl} {d : Nat} {σ τ0 : Sg} {b nk n r L : Nat} {B : Nat → Nat} {tr : Nat → Nat → Tr} {A E : Nat → Nat → Nat}
/-- what judging and writing a build leaves -/
def RAl (G : Gl) (τ0 : Sg) (b : Nat) (B : Nat → Nat) (n r nk : Nat) (tr : Nat → Nat → Tr) (o : Outcome) (s : Sg) : Prop := ∃ τ1 τ2, (pA1 τ0 b (yTok B n) nk = .ok () → JL τ0 τ1 b B n r nk ∧ IVm τ0 τ1 b nk nk 0 ∧ stP sm τ1 = stP sm τ0) ∧ (pA1 τ0 b (yTok B n) nk = .ok () → pA2 τ1 b nk = .ok () → JL τ0 τ2 b B n r nk ∧ LBv τ1 τ2 b nk) ∧ oJ G b (yTok B n) τ0 (pAl τ0 τ1 τ2 b (yTok B n) nk tr) (fun _ o s => o = .returned none ∧ AIn (csA b tr nk 0 τ2) τ0 s b nk (tgF (csA b tr nk 0 τ2) b) tr nk) o s
theorem sp_X6_all (hG : GOK G) (hd : 1712 ≤ d) (hb : b < 16) (hτ : τ0 = sR σ 1602 0 0 (some b)) (hJ : JL τ0 τ0 b B n r nk) (hz : τ0.I 2009 b 0 = 0 ∧ τ0.I 2011 b 0 = 0 ∧ τ0.I 2013 b 0 = 0) (hT7 : ∀ k, k < nk → HdT τ0 (12 * b + k) r) (hT4 : ∀ k j, k < nk → j < nMe τ0 (12 * b + k) → MmT τ0 (yTok B n) (33 * (12 * b + k) + j) r ∧ ∃ so, so < 4 ∧ τ0.I 1200 (33 * (12 * b + k) + j) 0 = nI so) (hV0 : ∀ s, JL τ0 s b B n r nk → stat s = stat τ0 → IVm τ0 s b nk 0 0) (h1 : ∀ s, JL τ0 s b B n r nk → pA1 τ0 b (yTok B n) nk = .ok () → IVm τ0 s b nk nk 0 → stP sm s = stP sm τ0 → LA1 s b r nk) (h2 : ∀ s1 s2, JL τ0 s1 b B n r nk → pA1 τ0 b (yTok B n) nk = .ok () → IVm τ0 s1 b nk nk 0 → stP sm s1 = stP sm τ0 → JL τ0 s2 b B n r nk → pA2 s1 b nk = .ok () → LBv s1 s2 b nk → LA2 τ0 s2 b (yTok B n) r L nk tr ∧ (jFor (fun kk => jLf s2 (12 * b + kk)) nk 0 = .ok () → LA3 τ0 (csA b tr nk 0 s2) b (yTok B n) r L nk tr A E)) : CT l G yX6_all (ws_ yX6_all cX6_all 4 none) d [.ref (G.adr 6 0), rv G 10 (some b)] σ (RAl G τ0 b B n r nk tr) := sorry
end SPX
