/-! LinkHouse: builds, uses, meet, looked -/
/-- how many builds stand, of a library; which one -/
def hN (σ : Sg) : Nat := (σ.I 1005 0 0).toNatClampNeg
def hMy (σ : Sg) (lib : Nat) : Nat := (σ.I 1007 0 lib).toNatClampNeg
def hSt (σ : Sg) (lib k : Nat) : Nat := (σ.I 1006 0 (8 * lib + k)).toNatClampNeg
def hUs (σ : Sg) (b : Nat) : Nat := (σ.I 2009 b 0).toNatClampNeg
def hKs (σ : Sg) (b : Nat) : Nat := (σ.I 2007 b 0).toNatClampNeg
/-- the builds stand in order -/
def HOK (σ : Sg) : Prop := (∃ n, n ≤ 16 ∧ σ.I 1005 0 0 = nI n) ∧ (∀ lib, lib < 5 → ∃ m, m ≤ 8 ∧ σ.I 1007 0 lib = nI m) ∧ (∀ lib k, lib < 5 → k < hMy σ lib → ∃ b, b < hN σ ∧ σ.I 1006 0 (8 * lib + k) = nI b) ∧ (∀ lib, lib < 5 → σ.I 1008 0 lib = (-2) ∨ ∃ k, k < hMy σ lib ∧ σ.I 1008 0 lib = nI k) ∧ (∀ b, b < hN σ → (∃ n, n ≤ 1000 ∧ σ.I 2009 b 0 = nI n) ∧ ∃ n, n ≤ 12 ∧ σ.I 2007 b 0 = nI n)
/-- uses know by whom they are -/
def UBY (σ : Sg) : Prop := ∀ b, b < hN σ → ∀ u, u < hUs σ b → ∃ k, k < hKs σ b ∧ σ.R 1701 (1000 * b + u) 0 = some (12 * b + k)
theorem HOK.n {σ : Sg} (h : HOK σ) : hN σ ≤ 16 ∧ σ.I 1005 0 0 = nI (hN σ) := sorry
theorem HOK.m {σ : Sg} (h : HOK σ) {lib : Nat} (hl : lib < 5) : hMy σ lib ≤ 8 ∧ σ.I 1007 0 lib = nI (hMy σ lib) := sorry
theorem HOK.s {σ : Sg} (h : HOK σ) {lib k : Nat} (hl : lib < 5) (hk : k < hMy σ lib) : hSt σ lib k < hN σ ∧ σ.I 1006 0 (8 * lib + k) = nI (hSt σ lib k) := sorry
theorem HOK.u {σ : Sg} (h : HOK σ) {b : Nat} (hb : b < hN σ) : hUs σ b ≤ 1000 ∧ σ.I 2009 b 0 = nI (hUs σ b) := sorry
theorem HOK.k {σ : Sg} (h : HOK σ) {b : Nat} (hb : b < hN σ) : hKs σ b ≤ 12 ∧ σ.I 2007 b 0 = nI (hKs σ b) := sorry
theorem pred_lt {m k : Nat} (hm : m < 2 ^ 31) (hk : k < 2 ^ 31) : nI m - 1 < nI k ↔ ¬ k < m := sorry
/-- a number within 0 .. m - 1 -/
def inN (m : Nat) (x : Int32) : Bool := decide (¬ x < 0) && decide (x.toNatClampNeg < m)
theorem inN_t {m : Nat} {x : Int32} (h : inN m x = true) : ∃ k, k < m ∧ x = nI k ∧ k < 2 ^ 31 := sorry
theorem inN_n {m k : Nat} (hk : k < 2 ^ 31) : inN m (nI k) = decide (k < m) := sorry
section SPX
variable {l : Launch} {G : Gl} {σ : Sg}
theorem sp_X0_within (hG : GOK G) {d : Nat} (hd : 1 ≤ d) {x0 : Int32} {m : Nat} (hm : m < 2 ^ 31) {x2 : Int32} (hx : x2 = nI m - 1) : CT l G yX0_within (ws_ yX0_within cX0_within 3 (some .boolean)) d [.int x0, .int 0, .int x2] σ (rZ (inN m x0) (fun s => s = σ)) := sorry
/-- the build of a library that is named -/
def hB (σ : Sg) (x1 x2 : Int32) : Option Nat := if inN 5 x1 = true ∧ inN (hMy σ x1.toNatClampNeg) x2 = true then some (hSt σ x1.toNatClampNeg x2.toNatClampNeg) else none
theorem hB_some {σ : Sg} (h : HOK σ) {x1 x2 : Int32} {b : Nat} (hb : hB σ x1 x2 = some b) : ∃ lib k, lib < 5 ∧ k < hMy σ lib ∧ x1 = nI lib ∧ x2 = nI k ∧ b = hSt σ lib k ∧ b < hN σ := sorry
theorem sp_X0_isBuild (hG : GOK G) {d : Nat} (hd : 2 ≤ d) (hH : HOK σ) (x1 x2 : Int32) : CT l G yX0_isBuild (ws_ yX0_isBuild cX0_isBuild 3 (some .boolean)) d [.ref (G.adr 0 0), .int x1, .int x2] σ (rZ (hB σ x1 x2).isSome (fun s => s = σ)) := sorry
theorem sp_X0_stored (hG : GOK G) {d : Nat} (hd : 1 ≤ d) (hH : HOK σ) {lib k : Nat} (hl : lib < 5) (hk : k < hMy σ lib) {x1 x2 : Int32} (e1 : x1 = nI lib) (e2 : x2 = nI k) : CT l G yX0_stored (ws_ yX0_stored cX0_stored 3 (some (.object "LinkHouse$Build"))) d [.ref (G.adr 0 0), .int x1, .int x2] σ (rR G 10 (some (hSt σ lib k)) (fun s => s = σ)) := sorry
/-- the use that is named -/
def hU (σ : Sg) (x1 x2 x3 : Int32) : Option Nat := match hB σ x1 x2 with
  | none => none
  | some b => if inN (hUs σ b) x3 = true then some (1000 * b + x3.toNatClampNeg) else none
theorem sp_X0_isUse (hG : GOK G) {d : Nat} (hd : 3 ≤ d) (hH : HOK σ) (x1 x2 x3 : Int32) : CT l G yX0_isUse (ws_ yX0_isUse cX0_isUse 4 (some .boolean)) d [.ref (G.adr 0 0), .int x1, .int x2, .int x3] σ (rZ (hU σ x1 x2 x3).isSome (fun s => s = σ)) := sorry
theorem hU_some {σ : Sg} (h : HOK σ) {x1 x2 x3 : Int32} {u : Nat} (hu : hU σ x1 x2 x3 = some u) : ∃ lib k b v, lib < 5 ∧ k < hMy σ lib ∧ x1 = nI lib ∧ x2 = nI k ∧ b = hSt σ lib k ∧ b < hN σ ∧ hB σ x1 x2 = some b ∧ v < hUs σ b ∧ x3 = nI v ∧ u = 1000 * b + v := sorry
/-- who a use is by -/
def uBy (σ : Sg) (u : Nat) : Nat := (σ.R 1701 u 0).getD 0
theorem UBY.by {σ : Sg} (hH : HOK σ) (h : UBY σ) {b v : Nat} (hb : b < hN σ) (hv : v < hUs σ b) : uBy σ (1000 * b + v) < cnt 1 ∧ σ.R 1701 (1000 * b + v) 0 = some (uBy σ (1000 * b + v)) ∧ 1000 * b + v < cnt 7 := sorry
/-- whether a use can be met: BAD, NONE, 0 -/
def hMt (σ : Sg) (x1 x2 x3 : Int32) : Int32 := match hU σ x1 x2 x3 with
  | none => -1
  | some u => if σ.I 1008 0 x1.toNatClampNeg = x2 ∧ ¬ σ.I 1128 (uBy σ u) 0 = (-2) then 0 else -2
theorem sp_X0_isMet (hG : GOK G) {d : Nat} (hd : 4 ≤ d) (hH : HOK σ) (hU1 : UBY σ) (x1 x2 x3 : Int32) : CT l G yX0_isMet (ws_ yX0_isMet cX0_isMet 4 (some .int)) d [.ref (G.adr 0 0), .int x1, .int x2, .int x3] σ (rI (hMt σ x1 x2 x3) (fun s => s = σ)) := sorry
end SPX
