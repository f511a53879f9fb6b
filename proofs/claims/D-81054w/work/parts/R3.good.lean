/-! What a judged E has: members that are there, arguments that fit. -/
/-- types fit those that are wanted -/
def ftL (τ : Sg) : List Int64 → List Int64 → Prop
  | [], [] => True
  | t :: ts, p :: ps => wFits τ 1 t p = true ∧ ftL τ ts ps
  | _, _ => False
theorem jTkF_ft {τ : Sg} {m : Nat} : ∀ (p k : Nat) (ts : List Int64), jTkF τ m p k ts = true → ftL τ ts ((List.range' k p).map fun j => τ.L 1209 m j) := sorry
theorem jTk_ft {τ : Sg} {m : Nat} {ts : List Int64} (h : jTk τ m ts = true) : ftL τ ts (pmL τ m) := sorry
theorem ffirst_t {p : Nat → Bool} : ∀ (n k : Nat) {j : Nat}, ffirst p n k = some j → p j = true := sorry
theorem kFld_nm {σ : Sg} {q m : Nat} {nm ty : Int64} (h : kFld σ q nm ty = some m) : σ.I 1200 m 0 = 0 ∧ σ.L 1201 m 0 = nm := sorry
theorem fds_nm {σ : Sg} {w : Nat} {nm ty : Int64} : ∀ (n k : Nat) (K : List Nat) (st : FD), fds σ w nm ty n k K = some st → ∀ m, st.2 = some m → σ.I 1200 m 0 = 0 ∧ σ.L 1201 m 0 = nm := sorry
theorem wFld_nm {σ : Sg} {w k m : Nat} {nm ty : Int64} (h : wFld σ w k nm ty = some m) : σ.I 1200 m 0 = 0 ∧ σ.L 1201 m 0 = nm := sorry
theorem jCdA_b {τ : Sg} {c x k : Nat} {nm : Int64} {ts : List Int64} : ∀ (p j : Nat) (A : List Nat) (m : Nat), m ∈ jCdA τ c x nm ts k p j A → m ∈ A ∨ jCdB τ c x nm ts k m = true := sorry
theorem jCdL_b {τ : Sg} {c x : Nat} {nm : Int64} {ts : List Int64} : ∀ (ks A : List Nat) (m : Nat), m ∈ jCdL τ c x nm ts ks A → m ∈ A ∨ ∃ k, jCdB τ c x nm ts k m = true := sorry
theorem jMth_b {τ : Sg} {c x m : Nat} {nm : Int64} {ts : List Int64} (h : jMth τ c x nm ts = some m) : τ.I 1200 m 0 = 1 ∧ τ.L 1201 m 0 = nm ∧ τ.B 1206 m 0 = false ∧ ftL τ ts (pmL τ m) := sorry
theorem jMkA_b {τ : Sg} {c x : Nat} {ts : List Int64} : ∀ (p j : Nat) (A : List Nat) (m : Nat), m ∈ jMkA τ c x ts p j A → m ∈ A ∨ jMkB τ c x ts m = true := sorry
theorem jMkr_b {τ : Sg} {c x m : Nat} {ts : List Int64} (h : jMkr τ c x ts = some m) : τ.I 1200 m 0 = 2 ∧ ftL τ ts (pmL τ m) := sorry
theorem wFind_slf {τ : Sg} {w c : Nat} {nm : Int64} (h : wFind τ w nm = some c) : wFind τ w (τ.L 1100 c 0) = some c := sorry
theorem wPar_slf {τ : Sg} {w k c : Nat} (h : wPar τ w k = some c) : wFind τ w (τ.L 1100 c 0) = some c := sorry
/-- a node that was judged -/
def gdN (τ : Sg) (b : Lb) (y : Tr) : Prop :=
  (b.1 = 4 ∨ b.1 = 6 ∨ b.1 = 17 → ¬ b.2.2.2.2.2.2.2.1 = 0 → wFind τ 1 (τ.L 1100 (cB b) 0) = some (cB b) ∧ LivU τ (wKs τ 1) (mB b) ∧ τ.I 1200 (mB b) 0 = 0 ∧ τ.L 1201 (mB b) 0 = lN b.2.2.2.2.1 ∧ b.2.2.2.2.2.2.1 = τ.L 1207 (mB b) 0 ∧ b.2.2.2.2.2.2.2.2.2 = 0 ∧ (b.1 = 6 → τ.B 1203 (mB b) 0 = true) ∧ (b.1 = 17 → τ.B 1203 (mB b) 0 = false)) ∧
  (b.1 = 6 ∨ b.1 = 17 → ¬ b.2.2.2.2.2.2.2.1 = 0) ∧
  (b.1 = 5 ∨ b.1 = 7 ∨ b.1 = 8 ∨ b.1 = 9 ∨ b.1 = 18 → wFind τ 1 (τ.L 1100 (cB b) 0) = some (cB b) ∧ LivU τ (wKs τ 1) (mB b) ∧ τ.I 1200 (mB b) 0 = 1 ∧ τ.L 1201 (mB b) 0 = lN b.2.2.2.2.1 ∧ b.2.2.2.2.2.2.1 = τ.L 1207 (mB b) 0 ∧ τ.B 1206 (mB b) 0 = false ∧ ftL τ (tyL y) (pmL τ (mB b)) ∧ (b.1 = 7 → τ.B 1203 (mB b) 0 = true) ∧ (b.1 = 8 ∨ b.1 = 9 ∨ b.1 = 18 → τ.B 1203 (mB b) 0 = false)) ∧
  (b.1 = 10 → wFind τ 1 (τ.L 1100 (cB b) 0) = some (cB b) ∧ LivU τ (wKs τ 1) (mB b) ∧ τ.I 1200 (mB b) 0 = 2 ∧ τ.L 1100 (cB b) 0 = lN b.2.2.2.2.2.1 ∧ b.2.2.2.2.2.2.1 = τ.L 1100 (cB b) 0 ∧ ftL τ (tyL y) (pmL τ (mB b))) ∧
  (b.1 = 4 → b.2.2.2.2.2.2.2.1 = 0 → b.2.2.2.2.2.2.2.2.1 < 1000 ∧ ¬ b.2.2.2.2.2.2.2.2.2 = 0)
/-- an E, or a row of them, that was judged -/
def gdE (τ : Sg) : Tr → Prop
  | .leaf => True
  | .inner _ b _ x y => (b.1 = 0 ∧ gdE τ x ∧ gdE τ y) ∨ ((1 ≤ b.1 ∧ b.1 ≤ 20) ∧ gdN τ b y ∧ (11 ≤ b.1 → gdE τ x) ∧ ((twy b.1 || thy b.1) = true → gdE τ y) ∧ (b.1 = 11 ∨ b.1 = 19 → ∃ c, wFind τ 1 (lN b.2.2.2.2.2.1) = some c))
theorem ckF_gd {τ : Sg} {k f t : Nat} {xo : Option Nat} {nm : Int64} (hW : WOK τ 1) (hx : ∀ x, xo = some x → x ∈ wKs τ 1) (h : ckF τ k xo nm t = .ok f) : (∃ x, xo = some x) ∧ LivU τ (wKs τ 1) f ∧ τ.I 1200 f 0 = 0 ∧ τ.L 1201 f 0 = nm := sorry
theorem ckC_gd {τ : Sg} {k m t : Nat} {xo : Option Nat} {nm : Int64} {ts : List Int64} (hW : WOK τ 1) (hx : ∀ x, xo = some x → x ∈ wKs τ 1) (h : ckC τ k xo nm ts t = .ok m) : (∃ x, xo = some x) ∧ LivU τ (wKs τ 1) m ∧ τ.I 1200 m 0 = 1 ∧ τ.L 1201 m 0 = nm ∧ τ.B 1206 m 0 = false ∧ ftL τ ts (pmL τ m) := sorry
theorem ckU_gd {τ : Sg} {k m t t2 : Nat} {st : Bool} {xo : Option Nat} {nm : Int64} {ts : List Int64} (hW : WOK τ 1) (hx : ∀ x, xo = some x → x ∈ wKs τ 1) (h : ckU τ k st xo nm ts t t2 = .ok m) : ((∃ x, xo = some x) ∧ LivU τ (wKs τ 1) m ∧ τ.I 1200 m 0 = 1 ∧ τ.L 1201 m 0 = nm ∧ τ.B 1206 m 0 = false ∧ ftL τ ts (pmL τ m)) ∧ τ.B 1203 m 0 = false := sorry
theorem ckP_tt {b : Bool} {f t : Nat} {a : Unit} (h : ckP b f t = .ok a) : b = true := sorry
theorem ckN_gd {τ : Sg} {k : Nat} {st : Bool} {Lc : List (Int64 × Int64 × Nat)} {b b' : Lb} {x y : Tr} (hW : WOK τ 1) (hk : wFind τ 1 (τ.L 1100 k 0) = some k) (hLc : Lc.length < 1000) (h20 : 1 ≤ b.1 ∧ b.1 ≤ 20) (h : ckN τ k st Lc b x y = .ok b') : gdN τ b' y := sorry
theorem wt_che {sz : Nat} {bb : Lb} {u : Unit} {x y : Tr} {w a e : Nat} (h : wt (Std.DTreeMap.Internal.Impl.inner sz bb u x y) 0 w a e) : (11 ≤ bb.1 → ∃ wx ax ex, wt x 0 wx ax ex) ∧ ((twy bb.1 || thy bb.1) = true → ∃ my wy ay ey, (my = 0 ∨ my = 1) ∧ wt y my wy ay ey) := sorry
theorem ckE_gd {τ : Sg} {k : Nat} {st : Bool} {Lc : List (Int64 × Int64 × Nat)} (hW : WOK τ 1) (hk : wFind τ 1 (τ.L 1100 k 0) = some k) (hLc : Lc.length < 1000) : ∀ (x x' : Tr) {m w a e : Nat}, m = 0 ∨ m = 1 ∨ m = 5 → wt x m w a e → ckE τ k st Lc x = .ok x' → gdE τ x' := sorry
