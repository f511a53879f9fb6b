/-! Judging, the model: known constants. -/
/-- all labels of a tree are in order -/
def nmT (T : Nat → Tk) (L : Nat) : Tr → Prop
  | .leaf => True
  | .inner _ b _ x y => (b.1 = 0 ∨ b.1 = 41 ∨ NmOK T L b) ∧ (11 ≤ b.1 ∨ b.1 = 0 → nmT T L x) ∧ ((twy b.1 || (thy b.1 || (b.1 == 32 || (b.1 == 33 || (b.1 == 0 || b.1 == 41))))) = true → nmT T L y)
theorem LTr_nm {σ : Sg} {T : Nat → Tk} {L : Nat} : ∀ (x : Tr) (lo hi : Nat) (v : Int32), LTr σ T L x lo hi v → nmT T L x := sorry
/-- a value or none, as a long -/
def lO (o : Option Int32) : Int64 := match o with
  | some v => v.toInt64
  | none => -9223372036854775808
theorem lO_some {v : Int32} : ¬ v.toInt64 = (-9223372036854775808) := sorry
theorem lO_back {v : Int32} : v.toInt64.toInt32 = v := sorry
theorem lO_iff {o : Option Int32} : lO o = (-9223372036854775808) ↔ o = none := sorry
/-- the columns of folding: marks, rows, the path -/
def pFd (c _j : Nat) : Bool := rg 2192 2198 c || rg 2206 2208 c
theorem pFd_iff {c j : Nat} : pFd c j = true ↔ (2192 < c ∧ c ≤ 2198) ∨ (2206 < c ∧ c ≤ 2208) := sorry
theorem pFd_no {c j : Nat} (h : c ≤ 2192 ∨ (2198 < c ∧ c ≤ 2206) ∨ 2208 < c) : pFd c j = false := sorry
theorem stJ_fo {σ s : Sg} (h : FJ pFd σ s) : stJ s = stJ σ := sorry
theorem pFL_pFd : ∀ c i j, pFd c j = false → pFL c i = false := sorry
theorem pN_pFL : ∀ c i, pN c i = true → pFL c i = true := sorry
theorem SIv.mixFL {σ ρ : Sg} (h : SIv ρ) : SIv (mix pFL σ ρ) := sorry
/-- what must be known while the bodies of class k are judged -/
def JgU (τ σ : Sg) (k : Nat) : Prop := OvU τ σ 1 ∧ (∀ c, c ∈ wKs τ 1 → MK2 τ σ c) ∧ k ∈ wKs τ 1 ∧ σ.B 2192 0 0 = false ∧ ∀ c, c ∈ wKs τ 1 → ∀ j, j < nMe τ c → τ.I 1200 (33 * c + j) 0 = 2 → τ.B 1203 (33 * c + j) 0 = false
theorem JgU_J {τ σ s : Sg} {k : Nat} (e : stJ s = stJ σ) (h : JgU τ σ k) : JgU τ s k := sorry
theorem MWm_cons {τ σ : Sg} {c : Nat} (h : OvU τ σ 1) (hc : c ∈ wKs τ 1) : MWm τ σ 1 (c :: wKs τ 1) := sorry
theorem isTwo_k {k : Nat} (h : 1 ≤ k ∧ k ≤ 20) : (15 ≤ mNk k ∧ mNk k ≤ 19) ↔ (12 ≤ k ∧ k ≤ 16) := sorry
section SPX
variable {l : Launch} {G : Gl} {d : Nat}
theorem sp_X11_isTwo (hG : GOK G) {σ : Sg} {k : Nat} (hd : 1 ≤ d) (hk : k < 100) {x : Int32} (e : x = nI k) : CT l G yX11_isTwo (ws_ yX11_isTwo cX11_isTwo 1 (some .boolean)) d [.int x] σ (rZ (decide (15 ≤ k ∧ k ≤ 19)) (fun s => s = σ)) := sorry
theorem sp_X11_act (hG : GOK G) {σ : Sg} {k : Nat} (hd : 1 ≤ d) (hk : 12 ≤ k ∧ k ≤ 16) {x0 x y : Int32} (e : x0 = nI (mNk k)) : CT l G yX11_act (ws_ yX11_act cX11_act 3 (some .int)) d [.int x0, .int x, .int y] σ (rI (rck k x y) (fun s => s = σ)) := sorry
/-- a name, or a name of a class, that may be a constant -/
theorem sp_X11_knownConstant (hG : GOK G) {τ σ : Sg} {k X nm cn : Nat} {kk : Int32} (hd : 9 ≤ d) (hU : JgU τ σ k) (hI : SIv σ) (hX : X < 30600) (h70 : σ.I 2170 0 X = kk) (h74 : σ.L 2174 0 X = lN nm) (hkk : kk = 3 ∨ (kk = 5 ∧ TyC (lN cn) ∧ σ.L 2175 0 X = tM (lN cn))) {x1 x2 : Int32} (e1 : x1 = nI X) (e2 : x2 = nI (cM k)) : CT l G yX11_knownConstant (ws_ yX11_knownConstant cX11_knownConstant 5 (some .long)) d [.ref (G.adr 11 0), .int x1, .int x2] σ (rL (lO (if kk = 3 then jKn τ k k (lN nm) else jKc τ k (lN cn) (lN nm))) (fun s => ∃ ρ, s = mix pFL σ ρ ∧ SIv ρ)) := sorry
end SPX
