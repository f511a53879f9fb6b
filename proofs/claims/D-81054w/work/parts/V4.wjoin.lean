/-! PURE: a judged tree is like the tree that was read; what its labels have. -/
/-- labels that agree in what was read -/
def sm6 (b b' : Lb) : Prop := b'.1 = b.1 ∧ b'.2.1 = b.2.1 ∧ b'.2.2.1 = b.2.2.1 ∧ b'.2.2.2.1 = b.2.2.2.1 ∧ b'.2.2.2.2.1 = b.2.2.2.2.1 ∧ b'.2.2.2.2.2.1 = b.2.2.2.2.2.1
theorem sm6_r {b : Lb} : sm6 b b := sorry
theorem sm6_a {b : Lb} {ty : Int64} {me cl sl : Nat} : sm6 b (an b ty me cl sl) := sorry
def smT : Tr → Tr → Prop
  | .leaf, x' => x' = .leaf
  | .inner _ b _ x y, x' => match x' with
    | .leaf => False
    | .inner _ b' _ x1 y1 => sm6 b b' ∧ smT x x1 ∧ smT y y1
theorem smT_r : ∀ x : Tr, smT x x := sorry
theorem smT_pr2 {x x' : Tr} (h : smT x x') (hx : pr2 x = .leaf) : pr2 x' = .leaf := sorry
theorem smT_ht : ∀ (x x' : Tr), smT x x' → ht x' = ht x := sorry
theorem smT_kd {x x' : Tr} (h : smT x x') : kdO x' = kdO x := sorry
theorem smT_tl {x x' : Tr} (h : smT x x') : tlS x' = tlS x := sorry
theorem NmOK_6 {T : Nat → Tk} {L r : Nat} {b b' : Lb} (hL : L ≤ r) (h : NmOK T L b) (e : sm6 b b') : NmOK T r b' := sorry
/-- the tree that is written -/
theorem LWt_of {σ : Sg} {T : Nat → Tk} {L r a e : Nat} (hL : L ≤ r) : ∀ (x x' : Tr) (lo hi lo' hi' : Nat) (v : Int32), smT x x' → LTr σ T L x lo hi v → LAn σ a e x' lo' hi' v → LWt σ T r x' v := sorry
/-- the locals are in order -/
def LcG (Lc : List (Int64 × Int64 × Nat)) : Prop := ∀ c, c ∈ Lc → TyOK c.2.1 ∧ ¬ c.2.1 = 2 ∧ c.2.2 < 1900
theorem lcF_mm {nm : Int64} : ∀ (Lc : Lcs) (i : Nat) (c : Nat × Int64 × Nat), lcF nm Lc i = some c → ∃ c', c' ∈ Lc ∧ c'.2.1 = c.2.1 ∧ c'.2.2 = c.2.2 := sorry
theorem oK_s {xo : Option Nat} {x : Nat} (h : xo = some x) : oK xo = x + 1 := sorry
theorem ckN_ok {τ : Sg} {k : Nat} {st : Bool} {Lc : List (Int64 × Int64 × Nat)} {b b' : Lb} {x y : Tr} (hW : WOK τ 1) (hO : OkW τ) (hk : wFind τ 1 (τ.L 1100 k 0) = some k) (hLc : LcG Lc) (h20 : 1 ≤ b.1 ∧ b.1 ≤ 20) (hx : b.1 = 20 → TyOK (tyO x)) (h11 : b.1 = 11 → ∃ c, wFind τ 1 (lN b.2.2.2.2.2.1) = some c) (h : ckN τ k st Lc b x y = .ok b') : okN k b' := sorry
theorem ckE_ok {τ : Sg} {k : Nat} {st : Bool} {Lc : List (Int64 × Int64 × Nat)} (hW : WOK τ 1) (hO : OkW τ) (hk : wFind τ 1 (τ.L 1100 k 0) = some k) (hLc : LcG Lc) : ∀ (x x' : Tr) {m w a e : Nat}, m = 0 ∨ m = 1 ∨ m = 5 → wt x m w a e → ckE τ k st Lc x = .ok x' → okT k x' ∧ smT x x' := sorry
