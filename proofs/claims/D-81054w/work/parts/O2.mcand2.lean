/-! Judging, the model: candidates of one class. -/
/-- m, of class k, of sort sr, may be meant -/
noncomputable def jCdBs (τ : Sg) (sr : Int32) (c x : Nat) (nm : Int64) (ts : List Int64) (k m : Nat) : Bool := decide (τ.I 1200 m 0 = sr) && (decide (τ.L 1201 m 0 = nm) && (!τ.B 1206 m 0 && (!(τ.B 1203 m 0 && (τ.B 1102 k 0 && !decide (k = x))) && (jTk τ m ts && mLts τ 1 c k m x (wNst τ 1 c) (wNst τ 1 k)))))
noncomputable def jCdAs (τ : Sg) (sr : Int32) (c x : Nat) (nm : Int64) (ts : List Int64) (k : Nat) : Nat → Nat → List Nat → List Nat
  | 0, _, A => A
  | p + 1, j, A => jCdAs τ sr c x nm ts k p (j + 1) (if (jCdBs τ sr c x nm ts k (33 * k + j) && !A.any (fun a => mPar τ a (33 * k + j))) = true then A ++ [33 * k + j] else A)
theorem jCdAs_1 {τ : Sg} {c x k : Nat} {nm : Int64} {ts : List Int64} : ∀ (p j : Nat) (A : List Nat), jCdAs τ 1 c x nm ts k p j A = jCdA τ c x nm ts k p j A := sorry
theorem jCdAs_len {τ : Sg} {sr : Int32} {c x k : Nat} {nm : Int64} {ts : List Int64} : ∀ (p j : Nat) (A : List Nat), A.length ≤ (jCdAs τ sr c x nm ts k p j A).length := sorry
theorem jTkF_len {τ : Sg} {m : Nat} : ∀ (p k : Nat) (ts : List Int64), jTkF τ m p k ts = true → ts.length = p := sorry
/-- the columns of candidates -/
def pMd (c _j : Nat) : Bool := rg 2192 2196 c || rg 2214 2216 c
theorem pMd_iff {c j : Nat} : pMd c j = true ↔ (2192 < c ∧ c ≤ 2196) ∨ (2214 < c ∧ c ≤ 2216) := sorry
theorem pMd_no {c j : Nat} (h : c ≤ 2192 ∨ (2196 < c ∧ c ≤ 2214) ∨ 2216 < c) : pMd c j = false := sorry
theorem stJ_md {σ s : Sg} (h : FJ pMd σ s) : stJ s = stJ σ := sorry
theorem pN_pMd : ∀ c i j, pMd c j = false → pN c i = false := sorry
theorem MAr_fj {σ s : Sg} {p : Nat → Nat → Bool} (hF : FJ p σ s) (h1 : ∀ j, p 2176 j = false) (h2 : ∀ j, p 2180 j = false) : ∀ (ts : List Int64) (v : Int32), MAr σ ts v → MAr s ts v := sorry
/-- the candidates, in the model: members that live -/
def CdL (τ σ : Sg) (A : List Nat) (np : Nat) : Prop := σ.I 2216 0 0 = nI A.length ∧ ∀ j, j < A.length → σ.I 2215 0 j = nI (mM (A.getD j 0)) ∧ LivU τ (wKs τ 1) (A.getD j 0) ∧ nPa τ (A.getD j 0) = np
def PmA (τ : Sg) : Prop := ∀ m, LivU τ (wKs τ 1) m → PmN τ m
theorem CdL.M {τ σ : Sg} {A : List Nat} {np : Nat} (h : CdL τ σ A np) (hU : OvU τ σ 1) (hP : PmA τ) : CdM τ σ A np := sorry
theorem CdL.fj {τ σ s : Sg} {A : List Nat} {np : Nat} {p : Nat → Nat → Bool} (h : CdL τ σ A np) (hF : FJ p σ s) (h1 : ∀ j, p 2215 j = false) (h2 : ∀ j, p 2216 j = false) : CdL τ s A np := sorry
theorem CdL_add {τ s : Sg} {A : List Nat} {m np : Nat} (h : CdL τ s A np) (hm : LivU τ (wKs τ 1) m) (hn : nPa τ m = np) : CdL τ (sI (sI s 2215 0 A.length (nI (mM m))) 2216 0 0 (nI A.length + 1)) (A ++ [m]) np := sorry
theorem LivU_in {τ : Sg} {k j : Nat} {U : List Nat} (hk : k ∈ U) (hj : j < nMe τ k) : LivU τ U (33 * k + j) := sorry
