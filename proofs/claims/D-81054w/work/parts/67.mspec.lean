/-! The model: mostSpecial -/
/-- world w with the members of its classes -/
def MWm (τ σ : Sg) (w : Nat) (U : List Nat) : Prop := MWd τ σ w U ∧ ∀ c, c ∈ U → MKm τ σ c
def pS (c _i : Nat) : Bool := rg 2192 2196 c || rg 2198 2202 c
theorem sub_NS (c i : Nat) (h : pN c i = true) : pS c i = true := sorry
theorem sub_NFS (c i : Nat) (h : pNF 2200 c i = true) : pS c i = true := sorry
theorem pS_s (c i : Nat) (h : scM c = true) : pS c i = false := sorry
theorem MWm_S {τ σ ρ : Sg} {w : Nat} {U : List Nat} (h : MWm τ σ w U) : MWm τ (mix pS σ ρ) w U := sorry
/-- y has such a method of objects -/
def hasM (τ : Sg) (m y : Nat) : Bool := match kMet τ y m with
  | some q => mObj τ q
  | none => false
def kM (τ : Sg) (m y : Nat) : Nat := (kMet τ y m).getD 0
/-- the faces in the model's order -/
def wSU (τ : Sg) (w x : Nat) : List Nat := if τ.B 1102 x 0 = true then x :: wAF τ w x else wAF τ w x
theorem spq_has {τ : Sg} {w m y x : Nat} : spq τ w m y x = (hasM τ m y && wHb τ w y x) := sorry
theorem fSp_has {τ : Sg} {w m y : Nat} {T : List Nat} (h : hasM τ m y = false) : fSp τ w m T y = none := sorry
/-- in what order the faces stand makes no difference -/
theorem wSU_perm {τ : Sg} {w x m : Nat} (hx : x ∉ wAF τ w x) : (∀ y, wSH τ w m (wSU τ w x) y = wSH τ w m (wST τ w x) y) ∧ ((wSU τ w x).filterMap (fSp τ w m (wSU τ w x))).length = (wMS τ w x m).length ∧ ((wMS τ w x m).length = 1 → (wSU τ w x).filterMap (fSp τ w m (wSU τ w x)) = wMS τ w x m) := sorry
/-- the row of special methods -/
def SRow (τ ρ : Sg) (m : Nat) (C : List Nat) : Prop := ∀ j, j < C.length → (C[j]?).map (fun y => nI (mM (kM τ m y))) = some (ρ.I 2199 0 j)
theorem SRow.push {τ ρ : Sg} {m : Nat} {C : List Nat} (h : SRow τ ρ m C) (k : Nat) : SRow τ (sI ρ 2199 0 C.length (nI (mM (kM τ m k)))) m (C ++ [k]) := sorry
theorem SIv.other {σ : Sg} (h : SIv σ) {c i j : Nat} {v : Int32} (hc : 2195 < c) : SIv (sI σ c i j v) := sorry
theorem kMet_mM {τ : Sg} (hS : Shp τ) {y m q : Nat} (hy : y < cnt 1) (h : kMet τ y m = some q) : kM τ m y = q ∧ mM q / 34 = cM y ∧ mM q < 7344 ∧ ∃ j, j < nMe τ y ∧ q = 33 * y + j ∧ mM q = 34 * cM y + j := sorry
section SPMP
variable {l : Launch} {G : Gl} {τ σ : Sg}
theorem sp_X11_mostSpecial (hG : GOK G) {d : Nat} (hd : 5 ≤ d) {w x m m' : Nat} (hU : MWm τ σ w (x :: wKs τ w)) (hs : SIv σ) (hx : x ∉ wAF τ w x) (hm : MSg τ σ m m') (h1 : τ.I 1200 m 0 = 1) {x1 x2 : Int32} (e1 : x1 = nI (cM x)) (e2 : x2 = nI m') : CT l G yX11_mostSpecial (ws_ yX11_mostSpecial cX11_mostSpecial 9 (some .int)) d [.ref (G.adr 11 0), .int x1, .int x2] σ (rI (nI (wMS τ w x m).length) (fun s => ∃ ρ, s = mix pS σ ρ ∧ SIv ρ ∧ ((wMS τ w x m).length = 1 → ρ.I 2202 0 0 = oN ((wMSr τ w x m).map mM)))) := sorry
end SPMP
