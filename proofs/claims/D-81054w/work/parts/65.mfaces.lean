/-! The model: allFaces -/
/-- a task of the pile: a class is to be gone along (true), or first to be added (false) -/
abbrev TK : Type := Bool × Nat
def tkC (t : TK) : Nat := 2 * cM t.2 + (if t.1 = true then 1 else 0)
/-- the pile, its top first -/
def TRow (ρ : Sg) (T : List TK) : Prop := ∀ j, j < T.length → (T.reverse[j]?).map (fun t => nI (tkC t)) = some (ρ.I 2196 0 j)
theorem TRow.push {ρ : Sg} {T : List TK} (h : TRow ρ T) (t : TK) : TRow (sI ρ 2196 0 T.length (nI (tkC t))) (t :: T) := sorry
theorem TRow.pop {ρ : Sg} {T : List TK} {t : TK} (h : TRow ρ (t :: T)) : TRow ρ T ∧ ρ.I 2196 0 T.length = nI (tkC t) := sorry
theorem TRow.mark {ρ : Sg} {T : List TK} (h : TRow ρ T) {c i j : Nat} {v : Int32} (hc : c ≠ 2196) : TRow (sI ρ c i j v) T := sorry
/-- marks: what is opened, what is added -/
def AS (ρ : Sg) (s : Nat) (st : FS) : Prop := s < 2 ^ 31 ∧ ρ.I 2195 0 0 = nI s ∧ (∀ c, c < 216 → (∃ a, a ≤ s ∧ ρ.I 2193 0 c = nI a) ∧ ∃ a, a ≤ s ∧ ρ.I 2194 0 c = nI a) ∧ (∀ c, c < cnt 1 → (ρ.I 2194 0 (cM c) = nI s ↔ c ∈ st.1)) ∧ ∀ c, c < cnt 1 → (ρ.I 2193 0 (cM c) = nI s ↔ c ∈ st.2)
theorem AS.iv {ρ : Sg} {s : Nat} {st : FS} (h : AS ρ s st) : SIv ρ := sorry
theorem SNw.as {ρ : Sg} {s : Nat} (h : SNw ρ s) : AS ρ s ([], []) := sorry
theorem AS.see {ρ : Sg} {s : Nat} {st : FS} (h : AS ρ s st) {x : Nat} (hx : x < cnt 1) : AS (sI ρ 2194 0 (cM x) (nI s)) s (st.1 ++ [x], st.2) := sorry
theorem AS.add {ρ : Sg} {s : Nat} {st : FS} (h : AS ρ s st) {x : Nat} (hx : x < cnt 1) : AS (sI ρ 2193 0 (cM x) (nI s)) s (st.1, st.2 ++ [x]) := sorry
theorem AS.other {ρ : Sg} {s : Nat} {st : FS} (h : AS ρ s st) {c i j : Nat} {v : Int32} (hc : 2195 < c) : AS (sI ρ c i j v) s st := sorry
/-- a row of classes of the model -/
def CRow (ρ : Sg) (fa : Nat) (L : List Nat) : Prop := ∀ j, j < L.length → (L[j]?).map (fun c => nI (cM c)) = some (ρ.I fa 0 j)
theorem CRow.push {ρ : Sg} {fa : Nat} {L : List Nat} (h : CRow ρ fa L) (k : Nat) : CRow (sI ρ fa 0 L.length (nI (cM k))) fa (L ++ [k]) := sorry
theorem CRow.other {ρ : Sg} {fa : Nat} {L : List Nat} (h : CRow ρ fa L) {c i j : Nat} {v : Int32} (hc : fa ≠ c) : CRow (sI ρ c i j v) fa L := sorry
/-- marks, the pile, and a row -/
def pNF (fa c _i : Nat) : Bool := rg 2192 2196 c || Nat.beq c fa
theorem pNF_n {fa c : Nat} (h : rg 2192 2196 c = true) (i : Nat) : pNF fa c i = true := sorry
theorem pNF_f {fa i : Nat} : pNF fa fa i = true := sorry
theorem tk_t {x : Nat} : tkC (true, x) = 2 * cM x + 1 := sorry
theorem tk_f {x : Nat} : tkC (false, x) = 2 * cM x := sorry
/-- the model's columns of texts, classes, members, nodes, the world -/
def scM (c : Nat) : Bool := rg 2104 2192 c
def stM (σ : Sg) : Sg := (fun c i j => cond (scM c) (σ.1 c i j) 0, fun c i j => cond (scM c) (σ.2.1 c i j) false, fun c i j => cond (scM c) (σ.2.2.1 c i j) 0, fun c i j => cond (scM c) (σ.2.2.2 c i j) none)
theorem stM_mix {p : Nat → Nat → Bool} {σ ρ : Sg} (h : ∀ c i, scM c = true → p c i = false) : stM (mix p σ ρ) = stM σ := sorry
theorem mLp_stM {σ : Sg} {nm : Int64} : ∀ n k, mLp (stM σ) nm n k = mLp σ nm n k := sorry
theorem mFnd_stM {σ : Sg} {nm : Int64} : mFnd (stM σ) nm = mFnd σ nm := sorry
theorem MWd_stM {τ σ : Sg} {w : Nat} {U : List Nat} : MWd τ (stM σ) w U ↔ MWd τ σ w U := sorry
theorem MWd_mix {p : Nat → Nat → Bool} {τ σ ρ : Sg} (h : ∀ c i, scM c = true → p c i = false) {w : Nat} {U : List Nat} (hU : MWd τ σ w U) : MWd τ (mix p σ ρ) w U := sorry
theorem pNF_s {fa : Nat} (hfa : 2196 < fa) (c i : Nat) (h : scM c = true) : pNF fa c i = false := sorry
theorem mixNF_I {fa k j : Nat} {σ ρ : Sg} (h : pNF fa k 0 = true) : (mix (pNF fa) σ ρ).I k 0 j = ρ.I k 0 j := sorry
section SPMK
variable {l : Launch} {G : Gl} {τ σ : Sg}
/-- where the pile's way stands -/
def GR (U : List Nat) (fa s : Nat) (ρ : Sg) (T : List TK) (st : FS) : Prop := AS ρ s st ∧ TRow ρ T ∧ CRow ρ fa st.2 ∧ FGood U st ∧ (∀ t, t ∈ T → t.2 ∈ U) ∧ T.length ≤ 5 * st.1.length + 1
def GG (l : Launch) (G : Gl) (d : Nat) (x1 : Int32) (fa : Nat) (U : List Nat) (s : Nat) (σ : Sg) (Q : Outcome → Sg → Prop) (N : Nat) (T : List TK) (st : FS) : Prop := ∀ ρ, GR U fa s ρ T st → wq_X11_allFaces_24 l G d 0 x1 fa 216 0 Q N (nI st.2.length) (nI T.length) (mix (pNF fa) σ ρ)
theorem sp_X11_allFaces (hG : GOK G) {d : Nat} (hd : 4 ≤ d) {w c fa : Nat} (hfa : IA fa 216) (hfi : 0 < cnt fa) (hfa2 : 2196 < fa) (hU0 : MWd τ σ w (c :: wKs τ w)) (hs : SIv σ) {x1 : Int32} (e1 : x1 = nI (cM c)) : CT l G yX11_allFaces (ws_ yX11_allFaces cX11_allFaces 9 (some .int)) d [.ref (G.adr 11 0), .int x1, .ref (G.adr fa 0)] σ (rI (nI (wAF τ w c).length) (fun s => ∃ ρ, s = mix (pNF fa) σ ρ ∧ SIv ρ ∧ CRow ρ fa (wAF τ w c))) := sorry
end SPMK
