/-! The model: see, askMaker, askField -/
variable {φ : Sg}
def MPr (τ σ : Sg) (m q : Nat) : Prop := q < 7344 ∧ m < cnt 2 ∧ σ.I 2155 0 q = τ.I 1208 m 0 ∧ (∃ n, n ≤ 4 ∧ τ.I 1208 m 0 = nI n) ∧ ∀ j, j < nPa τ m → TyOK (τ.L 1209 m j) ∧ σ.L 2156 0 (4 * q + j) = tM (τ.L 1209 m j)
theorem MSg.pr {τ σ : Sg} {m q : Nat} (h : MSg τ σ m q) : MPr τ σ m q := sorry
theorem MPr.p {τ σ : Sg} {m q : Nat} (h : MPr τ σ m q) : nPa τ m ≤ 4 ∧ τ.I 1208 m 0 = nI (nPa τ m) := sorry
def pA (c _i : Nat) : Bool := rg 2192 2202 c || (rg 2231 2236 c || rg 2239 2243 c)
theorem pA_iff {c i : Nat} : pA c i = true ↔ (2192 < c ∧ c ≤ 2202) ∨ (2231 < c ∧ c ≤ 2236) ∨ (2239 < c ∧ c ≤ 2243) := sorry
theorem pA_no {c i : Nat} (h : ¬ ((2192 < c ∧ c ≤ 2202) ∨ (2231 < c ∧ c ≤ 2236) ∨ (2239 < c ∧ c ≤ 2243))) : pA c i = false := sorry
theorem pA_s (c i : Nat) (h : scM c = true) : pA c i = false := sorry
theorem sub_NBA (c i : Nat) (h : pNB c i = true) : pA c i = true := sorry
theorem sub_BA (c i : Nat) (h : pB c i = true) : pA c i = true := sorry
theorem sub_NA (c i : Nat) (h : pN c i = true) : pA c i = true := sorry
theorem sub_FLA (c i : Nat) (h : pFL c i = true) : pA c i = true := sorry
theorem sub_SA (c i : Nat) (h : pS c i = true) : pA c i = true := sorry
theorem sub_NF43A (c i : Nat) (h : pNF 2243 c i = true) : pA c i = true := sorry
/-- the world of the model, with its members -/
def MLk (τ σ : Sg) : Prop := MLd τ σ ∧ (∀ c, c ∈ wKs τ 0 → MKm τ σ c ∧ MIn τ c) ∧ MOK τ
theorem MLk_A {τ σ ρ : Sg} (h : MLk τ σ) : MLk τ (mix pA σ ρ) := sorry
theorem MLk.wm {τ σ : Sg} (h : MLk τ σ) {c : Nat} (hc : c ∈ wKs τ 0) : MWm τ σ 0 (c :: wKs τ 0) := sorry
/-- what the model knows of a use it asks for -/
def MA (φ ρ : Sg) (B : Nat) (st : LSt) (f : Option Nat) (lk : List Nat) : Prop := LSM φ ρ B st ∧ SIv ρ ∧ ρ.I 2240 0 0 = oN (f.map mM) ∧ ρ.I 2242 0 0 = nI lk.length ∧ CRow ρ 2241 lk
theorem MA.see {ρ : Sg} {B : Nat} {st : LSt} {f : Option Nat} {lk : List Nat} (h : MA φ ρ B st f lk) (c : Nat) : MA φ (sI (sI ρ 2241 0 lk.length (nI (cM c))) 2242 0 0 (nI (lk.length + 1))) B st f (lk ++ [c]) := sorry
theorem MA.met {ρ : Sg} {B : Nat} {st : LSt} {f : Option Nat} {lk : List Nat} (h : MA φ ρ B st f lk) (g : Option Nat) : MA φ (sI ρ 2240 0 0 (oN (g.map mM))) B st g lk := sorry
theorem MA.lets {ρ ρ' : Sg} {B : Nat} {st st' : LSt} {f : Option Nat} {lk : List Nat} (h : MA φ ρ B st f lk) (h1 : SIv ρ') (h2 : LSM φ ρ' B st') : MA φ (mix pNB ρ ρ') B st' f lk := sorry
theorem MA.load {ρ ρ' : Sg} {B : Nat} {st st' : LSt} {f : Option Nat} {lk : List Nat} (h : MA φ ρ B st f lk) (h2 : LSM φ ρ' B st') : MA φ (mix pB ρ ρ') B st' f lk := sorry
theorem MA.heir {ρ ρ' : Sg} {B : Nat} {st : LSt} {f : Option Nat} {lk : List Nat} (h : MA φ ρ B st f lk) (h1 : SIv ρ') : MA φ (mix pN ρ ρ') B st f lk := sorry
theorem MA.field {ρ ρ' : Sg} {B : Nat} {st : LSt} {f : Option Nat} {lk : List Nat} (h : MA φ ρ B st f lk) (h1 : SIv ρ') : MA φ (mix pFL ρ ρ') B st f lk := sorry
theorem MA.spec {ρ ρ' : Sg} {B : Nat} {st : LSt} {f : Option Nat} {lk : List Nat} (h : MA φ ρ B st f lk) (h1 : SIv ρ') : MA φ (mix pS ρ ρ') B st f lk := sorry
theorem MA.up {σ ρ : Sg} {B : Nat} {st : LSt} {f : Option Nat} {lk : List Nat} (h : MA φ ρ B st f lk) : SIv (mix pA σ ρ) ∧ LSM φ (mix pA σ ρ) B st := sorry
section SPMT
variable {l : Launch} {G : Gl} {τ σ : Sg}
theorem sq_X11_sameParams (hG : GOK G) {d : Nat} (hd : 1 ≤ d) {a b a' b' : Nat} (ha : MPr τ σ a a') (hb : MPr τ σ b b') {x y : Int32} (hx : x = nI a') (hy : y = nI b') : CT l G yX11_sameParams (ws_ yX11_sameParams cX11_sameParams 5 (some .boolean)) d [.ref (G.adr 11 0), .int x, .int y] σ (rZ (mPar τ a b) (fun s => s = σ)) := sorry
/-- the same name, type, params -/
theorem sp_X11_see (hG : GOK G) {d n : Nat} (hd : 1 ≤ d) (h2 : σ.I 2242 0 0 = nI n) (hn : n < 216) (x : Int32) : CT l G yX11_see (ws_ yX11_see cX11_see 2 none) d [.ref (G.adr 11 0), .int x] σ (rV (fun s => s = sI (sI σ 2241 0 n x) 2242 0 0 (nI (n + 1)))) := sorry
/-- the model's askMaker -/
theorem sp_X11_askMaker (hG : GOK G) (hM : MLk τ σ) {B d u b c : Nat} (hd : 141 ≤ d) (hb : b ∈ wKs τ 0) (hc : c ∈ wKs τ 0) (hsg : MPr τ σ (6402 + u) 7343) (hl : σ.B 2192 0 0 = true) {st : LSt} (hL : LOK st) (hC : LCL τ st) (hE : EVB B st) {ρ : Sg} (hf : MA φ ρ B st none []) {x y : Int32} (hx : x = nI (cM c)) (hy : y = nI (cM b)) : CT l G yX11_askMaker (ws_ yX11_askMaker cX11_askMaker 5 (some .int)) d [.ref (G.adr 11 0), .int x, .int y] (mix pA σ ρ) (rI (mkR τ u b c st none none []).1 (fun s => ∃ ρ', s = mix pA σ ρ' ∧ MA φ ρ' B (mkR τ u b c st none none []).2.1 (mkR τ u b c st none none []).2.2.1 (mkR τ u b c st none none []).2.2.2.2)) := sorry
end SPMT
