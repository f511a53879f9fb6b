/-! World.isHeir, fits, isLet, isMeantBy -/
/-- the column in which isHeir works -/
def pH (c _i : Nat) : Bool := Nat.beq c 1311
theorem mix_sub {p q : Nat → Nat → Bool} {σ ρ τ : Sg} (h : ∀ c i, q c i = true → p c i = true) : mix q (mix p σ ρ) τ = mix p σ (mix q ρ τ) := sorry
/-- what isHeir has found so far: M; all above the first q of it are in M and are not b -/
def hInv (σ : Sg) (w a b : Nat) (M : List Nat) (q : Nat) : Prop := M.Nodup ∧ (∀ x, x ∈ M → x ∈ a :: wKs σ w) ∧ a ∈ M ∧ (∀ x, x ∈ M → x = a ∨ wHr σ w a x) ∧ q ≤ M.length ∧ ∀ j, j < q → ∀ x, M[j]? = some x → ∀ y, wSt σ w x y → y ≠ b ∧ y ∈ M
theorem hInv.len {σ : Sg} {w a b : Nat} {M : List Nat} {q : Nat} (hW : WOK σ w) (h : hInv σ w a b M q) : M.length ≤ 63 := sorry
theorem hInv.snoc {σ : Sg} {w a b : Nat} {M : List Nat} {q y c : Nat} (h : hInv σ w a b M q) (hy : y ∉ M) (hc : c ∈ M) (hs : wSt σ w c y) : hInv σ w a b (M ++ [y]) q := sorry
section SPH
variable {l : Launch} {G : Gl} {d : Nat} {σ : Sg}
theorem sp_X3_isHeir (hG : GOK G) (hd : 3 ≤ d) {w : Nat} (hw : w < cnt 3) (hW : WOK σ w) (hS : Shp σ) {a b : Nat} (ha : a < cnt 1) (hb : b < cnt 1) (ρ : Sg) : CT l G yX3_isHeir (ws_ yX3_isHeir cX3_isHeir 9 (some .boolean)) d [.ref (G.adr 3 w), rv G 1 (some a), rv G 1 (some b)] (mix pH σ ρ) (rZ (wHb σ w a b) (fun s => ∃ ρ', s = mix pH σ ρ')) := sorry
theorem sq_X3_isHeir (hG : GOK G) (hd : 3 ≤ d) {w : Nat} (hw : w < cnt 3) (hW : WOK σ w) (hS : Shp σ) {a b : Nat} (ha : a < cnt 1) (hb : b < cnt 1) : CT l G yX3_isHeir (ws_ yX3_isHeir cX3_isHeir 9 (some .boolean)) d [.ref (G.adr 3 w), rv G 1 (some a), rv G 1 (some b)] σ (rZ (wHb σ w a b) (fun s => ∃ ρ', s = mix pH σ ρ')) := sorry
noncomputable def wFits (σ : Sg) (w : Nat) (h t : Int64) : Bool := if h = 0 ∨ t = 0 then false else if h = t then !decide (h = 2) else if h = 1 ∨ t = 1 ∨ t = 2 then false else if h = 2 then true else match wFind σ w h, wFind σ w t with
  | some a, some b => (decide (b = 192) && σ.B 1102 a 0) || wHb σ w a b
  | _, _ => false
theorem sp_X3_fits (hG : GOK G) (hd : 4 ≤ d) {w : Nat} (hw : w < cnt 3) (hW : WOK σ w) (hS : Shp σ) (h t : Int64) : CT l G yX3_fits (ws_ yX3_fits cX3_fits 7 (some .boolean)) d [.ref (G.adr 3 w), .long h, .long t] σ (rZ (wFits σ w h t) (fun s => ∃ ρ', s = mix pH σ ρ')) := sorry
/-- a class is let to another -/
def kOpn (σ : Sg) (c a : Nat) : Bool := σ.B 1103 c 0 || decide (σ.I 1101 c 0 = σ.I 1101 a 0)
theorem sp_X3_isLet (hG : GOK G) (hd : 1 ≤ d) {a c : Nat} (ha : a < cnt 1) (hc : c < cnt 1) : CT l G yX3_isLet (ws_ yX3_isLet cX3_isLet 2 (some .boolean)) d [rv G 1 (some a), rv G 1 (some c)] σ (rZ (kOpn σ c a) (fun s => s = σ)) := sorry
/-- a member's kind: what its 'of' says -/
def mOf (σ : Sg) (m : Nat) : Nat := (σ.R 1222 m 0).getD 0
def mMnt (σ : Sg) (m a : Nat) : Bool := decide (2 ≤ σ.I 1202 m 0) || (decide (σ.I 1202 m 0 = 1) && decide (σ.I 1101 (mOf σ m) 0 = σ.I 1101 a 0))
theorem sp_X3_isMeantBy (hG : GOK G) (hd : 1 ≤ d) {m a : Nat} (hm : m < cnt 2) (ha : a < cnt 1) (ho : ∃ k, k < cnt 1 ∧ σ.R 1222 m 0 = some k) : CT l G yX3_isMeantBy (ws_ yX3_isMeantBy cX3_isMeantBy 2 (some .boolean)) d [rv G 2 (some m), rv G 1 (some a)] σ (rZ (mMnt σ m a) (fun s => s = σ)) := sorry
end SPH
