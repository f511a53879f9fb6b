/-! LinkHouse writes while it judges: the judge is the same. -/
theorem LivU.lt {τ : Sg} {m : Nat} (hW : WOK τ 1) (hS : Shp τ) (h : LivU τ (wKs τ 1) m) : m < 6402 := sorry
theorem wKs_lt {τ : Sg} (hW : WOK τ 1) {x : Nat} (h : x ∈ wKs τ 1) : x < 194 := sorry
section SJ
variable {τ s : Sg}
theorem SmJ.mkB (h : SmJ τ s) {c x m : Nat} {ts : List Int64} (hm : m < 6402) : jMkB s c x ts m = jMkB τ c x ts m := sorry
theorem SmJ.mkA (h : SmJ τ s) {c x : Nat} {ts : List Int64} (hx : x < 194) : ∀ (p j : Nat) (A : List Nat), j + p ≤ 33 → (∀ m, m ∈ A → m < 6402) → jMkA s c x ts p j A = jMkA τ c x ts p j A ∧ ∀ m, m ∈ jMkA τ c x ts p j A → m < 6402 := sorry
theorem SmJ.mkr (h : SmJ τ s) (hS : Shp τ) {c x : Nat} {ts : List Int64} (hx : x < 194) : jMkr s c x ts = jMkr τ c x ts := sorry
theorem SmJ.cdB (h : SmJ τ s) {c x k m : Nat} {nm : Int64} {ts : List Int64} (hm : m < 6402) : jCdB s c x nm ts k m = jCdB τ c x nm ts k m := sorry
theorem any_c {α : Type} {f g : α → Bool} : ∀ (A : List α), (∀ a, a ∈ A → f a = g a) → A.any f = A.any g := sorry
theorem SmJ.cdA (h : SmJ τ s) {c x k : Nat} {nm : Int64} {ts : List Int64} (hk : k < 194) : ∀ (p j : Nat) (A : List Nat), j + p ≤ 33 → (∀ m, m ∈ A → m < 6402) → jCdA s c x nm ts k p j A = jCdA τ c x nm ts k p j A ∧ ∀ m, m ∈ jCdA τ c x nm ts k p j A → m < 6402 := sorry
theorem SmJ.cdL (h : SmJ τ s) (hS : Shp τ) {c x : Nat} {nm : Int64} {ts : List Int64} : ∀ (ks A : List Nat), (∀ k, k ∈ ks → k < 194) → (∀ m, m ∈ A → m < 6402) → jCdL s c x nm ts ks A = jCdL τ c x nm ts ks A ∧ ∀ m, m ∈ jCdL τ c x nm ts ks A → m < 6402 := sorry
theorem SmJ.mth (h : SmJ τ s) (hW : WOK τ 1) (hS : Shp τ) {c x : Nat} {nm : Int64} {ts : List Int64} (hx : x ∈ wKs τ 1) : jMth s c x nm ts = jMth τ c x nm ts := sorry
theorem SmJ.ckf (h : SmJ τ s) (hW : WOK τ 1) (hS : Shp τ) {k t : Nat} {xo : Option Nat} {nm : Int64} (hx : ∀ x, xo = some x → x ∈ wKs τ 1) : ckF s k xo nm t = ckF τ k xo nm t := sorry
theorem SmJ.mto (h : SmJ τ s) (hW : WOK τ 1) (hS : Shp τ) {k : Nat} {xo : Option Nat} {nm : Int64} {ts : List Int64} (hx : ∀ x, xo = some x → x ∈ wKs τ 1) : jMtO s k xo nm ts = jMtO τ k xo nm ts := sorry
theorem SmJ.ckc (h : SmJ τ s) (hW : WOK τ 1) (hS : Shp τ) {k t : Nat} {xo : Option Nat} {nm : Int64} {ts : List Int64} (hx : ∀ x, xo = some x → x ∈ wKs τ 1) : ckC s k xo nm ts t = ckC τ k xo nm ts t := sorry
/-- behind a search whose find lives -/
theorem bnd_c {α : Type} {A : PR Nat} {f g : Nat → PR α} (h : ∀ m, A = .ok m → f m = g m) : bnd A f = bnd A g := sorry
theorem SmJ.cku (h : SmJ τ s) (hW : WOK τ 1) (hS : Shp τ) {k t t2 : Nat} {st : Bool} {xo : Option Nat} {nm : Int64} {ts : List Int64} (hx : ∀ x, xo = some x → x ∈ wKs τ 1) : ckU s k st xo nm ts t t2 = ckU τ k st xo nm ts t t2 := sorry
theorem SmJ.ckn (h : SmJ τ s) (hW : WOK τ 1) (hS : Shp τ) {k : Nat} {st : Bool} {Lc : List (Int64 × Int64 × Nat)} {b : Lb} {x y : Tr} (hk : k ∈ wKs τ 1) (h20 : 1 ≤ b.1 ∧ b.1 ≤ 20) : ckN s k st Lc b x y = ckN τ k st Lc b x y := sorry
theorem SmJ.ckEe (h : SmJ τ s) (hW : WOK τ 1) (hS : Shp τ) {k : Nat} {st : Bool} {Lc : List (Int64 × Int64 × Nat)} (hk : k ∈ wKs τ 1) : ∀ (x : Tr) {m w a e : Nat}, m = 0 ∨ m = 1 ∨ m = 5 → wt x m w a e → ckE s k st Lc x = ckE τ k st Lc x := sorry
end SJ
