/-! The model: stands, letsBelow, states and events -/
variable {φ : Sg}
/-- the rest of a head -/
def MK2 (τ σ : Sg) (c : Nat) : Prop := KPk τ c ∧ ((τ.L 1110 c 0 = 0 ∧ σ.L 2133 0 (cM c) = 0) ∨ (TyC (τ.L 1110 c 0) ∧ σ.L 2133 0 (cM c) = tM (τ.L 1110 c 0))) ∧ (σ.I 2137 0 (cM c) = τ.I 1112 c 0 ∧ ∀ j, j < nWi τ c → TyC (τ.L 1111 c j) ∧ σ.L 2135 0 (8 * cM c + j) = tM (τ.L 1111 c j)) ∧ (σ.I 2140 0 (cM c) = τ.I 1114 c 0 ∧ ∀ j, j < nOn τ c → TyC (τ.L 1113 c j) ∧ σ.L 2138 0 (8 * cM c + j) = tM (τ.L 1113 c j)) ∧ τ.B 1115 c 0 = decide (0 < nOn τ c)
theorem TyC.ok {t : Int64} (h : TyC t) : TyOK t := sorry
section SPMQ
variable {l : Launch} {G : Gl} {τ σ : Sg}
theorem sp_X11_stands (hG : GOK G) {d : Nat} (hd : 1 ≤ d) {fa fn f0 n : Nat} (hfa : LA fa fn) (hfi : 0 < cnt fa) (hfn : f0 + n ≤ fn) (hfn2 : fn < 2 ^ 31) {x1 x2 : Int32} (e1 : x1 = nI f0) (e2 : x2 = nI n) (nm : Int64) : CT l G yX11_stands (ws_ yX11_stands cX11_stands 7 (some .boolean)) d [.ref (G.adr fa 0), .int x1, .int x2, .long nm] σ (rZ (fany (fun j => decide (σ.L fa 0 (f0 + j) = nm)) n 0) (fun s => s = σ)) := sorry
theorem fany_tM {p q : Nat → Bool} {n : Nat} (h : ∀ j, j < n → p j = q j) : fany p n 0 = fany q n 0 := sorry
theorem sp_X11_letsBelow (hG : GOK G) {d : Nat} (hd : 5 ≤ d) (hS : Shp τ) {u c : Nat} (hu : u < cnt 1) (hc : c < cnt 1) (ku : MK1 τ σ u) (kc : MK1 τ σ c) (ku2 : MK2 τ σ u) (kc2 : MK2 τ σ c) {x y : Int32} (hx : x = nI (cM u)) (hy : y = nI (cM c)) : CT l G yX11_letsBelow (ws_ yX11_letsBelow cX11_letsBelow 3 (some .boolean)) d [.ref (G.adr 11 0), .int x, .int y] σ (rZ (kOpn τ u c && kLet τ u (τ.L 1100 c 0)) (fun s => s = σ)) := sorry
/-- a state of the model, and what the linker knows -/
def stR (v f s : Int32) : Prop := (s = 0 ∧ v = 0) ∨ (s = 2 ∧ v = 8) ∨ (s = 1 ∧ (v = 1 ∨ v = 2 ∨ v = 3 ∨ v = 4 ∨ v = 6 ∨ v = 7)) ∨ ∃ n, 0 < n ∧ n ≤ 16 ∧ s = nI (100 + n) ∧ v = 5 ∧ f = nI n
/-- a state behind loading -/
def gdQ (v : Int32) : Prop := v = 2 ∨ v = 3 ∨ v = 4 ∨ v = 6 ∨ v = 7
/-- states behind loading are those of φ -/
def LSX (φ ρ : Sg) (st : LSt) : Prop := ∀ n, 2 ≤ n → n < 64 → (gdQ (φ.I 2232 0 n) → st.1 n = 1 ∧ ρ.I 2232 0 n = φ.I 2232 0 n ∧ ρ.I 2233 0 n = φ.I 2233 0 n) ∧ (¬ gdQ (φ.I 2232 0 n) → st.1 n = 1 → ρ.I 2232 0 n = 1)
/-- a set of states of the model (from B on) is the linker's st -/
def LSM (φ ρ : Sg) (B : Nat) (st : LSt) : Prop := (∀ n, 2 ≤ n → n < 64 → stR (ρ.I 2232 0 (B + n)) (ρ.I 2233 0 (B + n)) (st.1 n)) ∧ (∀ n, n < 2 → ρ.I 2232 0 (B + n) = 4) ∧ ρ.I 2234 0 0 = nI B ∧ (B = 0 ∨ B = 64) ∧ (B = 0 → ρ.I 2236 0 0 = nI st.2.length ∧ (∀ j, j < st.2.length → st.2[j]? = some (ρ.I 2235 0 j)) ∧ LSX φ ρ st) ∧ (B = 64 → (∀ j, j < 64 → ρ.I 2232 0 j = φ.I 2232 0 j ∧ ρ.I 2233 0 j = φ.I 2233 0 j) ∧ (∀ j, ρ.I 2235 0 j = φ.I 2235 0 j) ∧ ρ.I 2236 0 0 = φ.I 2236 0 0)
def pB (c _i : Nat) : Bool := rg 2231 2236 c
theorem sp_X11_stateOf (hG : GOK G) {d : Nat} (hd : 1 ≤ d) {B n c : Nat} (hc : c < cnt 1) {ρ : Sg} {st : LSt} (h : LSM φ ρ B st) (hn : n < 64) (en : σ.I 2231 0 (cM c) = nI n) {x : Int32} (hx : x = nI (cM c)) : CT l G yX11_stateOf (ws_ yX11_stateOf cX11_stateOf 2 (some .int)) d [.ref (G.adr 11 0), .int x] (mix pB σ ρ) (rI (ρ.I 2232 0 (B + n)) (fun s => s = mix pB σ ρ)) := sorry
/-- events that are told of the machine's set alone -/
def evM (B : Nat) (st : LSt) (v : Int32) : LSt := if B = 0 ∧ ¬ v = 8 then st else st
theorem sp_X11_becomes (hG : GOK G) {d : Nat} (hd : 2 ≤ d) {B n c : Nat} (hc : c < cnt 1) {ρ : Sg} {st st' : LSt} {v f : Int32} (h : LSM φ ρ B st) (hn2 : 2 ≤ n) (hn : n < 64) (en : σ.I 2231 0 (cM c) = nI n) (hs : ∀ j, j ≠ n → st'.1 j = st.1 j) (hr : stR v f (st'.1 n)) (hev : B = 0 → st'.2 = (if v = 8 then st.2 else st.2 ++ [100 * nI n + v])) (hlen : B = 0 → st.2.length < 600) (hx1 : B = 0 → ¬ gdQ (φ.I 2232 0 n)) (hx2 : st'.1 n = 1 → v = 1) {x : Int32} (hx : x = nI (cM c)) : CT l G yX11_becomes (ws_ yX11_becomes cX11_becomes 4 none) d [.ref (G.adr 11 0), .int x, .int v, .int f] (mix pB σ ρ) (rV (fun s => ∃ ρ', s = mix pB σ ρ' ∧ LSM φ ρ' B st')) := sorry
end SPMQ
