/-! Judging, LinkHouse: constants. -/
/-- height of a tree, along what is judged -/
def ht : Tr → Nat
  | .leaf => 0
  | .inner _ b _ x y => (if b.1 = 0 ∨ b.1 = 41 then 0 else 1) + max (if 11 ≤ b.1 ∨ b.1 = 0 then ht x else 0) (if (twy b.1 || (thy b.1 || (b.1 == 32 || (b.1 == 33 || (b.1 == 0 || b.1 == 41))))) = true then ht y else 0)
theorem LTr_ht {σ : Sg} {T : Nat → Tk} {L : Nat} : ∀ (x : Tr) (lo hi : Nat) (v : Int32), LTr σ T L x lo hi v → ht x ≤ hi - lo := sorry
theorem wFind_e {σ s : Sg} {w : Nat} {nm : Int64} (h : stat s = stat σ) : wFind s w nm = wFind σ w nm := sorry
/-- a known constant of a name, in class c, for class k -/
noncomputable def jKn (σ : Sg) (k c : Nat) (nm : Int64) : Option Int32 := match wFld σ 1 c nm 2 with
  | none => none
  | some f => if σ.B 1212 f 0 = true then (if mLts σ 1 k (mOf σ f) f c (wNst σ 1 k) (wNst σ 1 (mOf σ f)) = true then some (σ.I 1213 f 0) else none) else none
def rck (k : Nat) (x y : Int32) : Int32 := if k = 14 then x + y else if k = 15 then x - y else if k = 16 then x * y else if k = 12 then (if y ≤ x then 0 else 1) else if x = y then 1 else 0
noncomputable def jKc (σ : Sg) (k : Nat) (cn nm : Int64) : Option Int32 := match wFind σ 1 cn with
  | none => none
  | some c => if kOpn σ c k = true then jKn σ k c nm else none
def o2 (f : Int32 → Int32 → Int32) (x y : Option Int32) : Option Int32 := match x, y with
  | some a, some b => some (f a b)
  | _, _ => none
noncomputable def jCs (σ : Sg) (k : Nat) : Tr → Option Int32
  | .leaf => none
  | .inner _ b _ x y => if b.1 = 1 then some (nI b.2.2.2.2.2.1) else if b.1 = 20 then jCs σ k x else if b.1 = 4 then jKn σ k k (lN b.2.2.2.2.1) else if b.1 = 6 then jKc σ k (lN b.2.2.2.2.2.1) (lN b.2.2.2.2.1) else if 12 ≤ b.1 ∧ b.1 ≤ 16 then o2 (rck b.1) (jCs σ k x) (jCs σ k y) else none
theorem jKn_st {σ : Sg} {k c : Nat} {nm : Int64} : jKn (stat σ) k c nm = jKn σ k c nm := sorry
theorem jKn_e {σ s : Sg} {k c : Nat} {nm : Int64} (h : stat s = stat σ) : jKn s k c nm = jKn σ k c nm := sorry
theorem jKc_e {σ s : Sg} {k : Nat} {cn nm : Int64} (h : stat s = stat σ) : jKc s k cn nm = jKc σ k cn nm := sorry
theorem jCs_e {σ s : Sg} {k : Nat} (h : stat s = stat σ) : ∀ x : Tr, jCs s k x = jCs σ k x := sorry
/-- the columns of constants -/
def pCs (c _i : Nat) : Bool := rg 1303 1313 c || Nat.beq c 1618
theorem pCs_iff {c i : Nat} : pCs c i = true ↔ (1303 < c ∧ c ≤ 1313) ∨ c = 1618 := sorry
theorem sta_Cs (c i : Nat) (h : sc c = true) : pCs c i = false := sorry
theorem pCs_pJ {b : Nat} : ∀ c i, pCs c i = true → pJ b c i = true := sorry
theorem pL_pCs : ∀ c i, pL c i = true → pCs c i = true := sorry
theorem pH_pCs : ∀ c i, pH c i = true → pCs c i = true := sorry
/-- an answer: there is a value, and it is the amount -/
def rC (σ : Sg) (a : Option Int32) (o : Outcome) (s : Sg) : Prop := o = .returned (some (.int (bI a.isSome))) ∧ ∃ ρ, s = mix pCs σ ρ ∧ ∀ v, a = some v → ρ.I 1618 0 0 = v
section SPX
variable {l : Launch} {G : Gl} {d : Nat} {σ : Sg}
theorem CT.useC {y : MethodName} {ws : List Cond} {av : List Value} {σ0 s0 : Sg} {a : Option Int32} {K : Bool → Sg → Prop} {T' : Nat → Sg → Prop} (h : CT l G y ws d av s0 (rC σ0 a)) (k : ∀ ρ, (∀ v, a = some v → ρ.I 1618 0 0 = v) → K a.isSome (mix pCs σ0 ρ)) : CT l G y ws d av s0 (oZ K T') := sorry
theorem sp_X6_isKnown (hG : GOK G) {k c : Nat} (hd : 70 ≤ d) (hW : WOK σ 1) (hS : Shp σ) (hM : MOK σ) (h603 : σ.R 1603 0 0 = some k) (hk : k < cnt 1) (hc : c < cnt 1) (nm : Int64) (ρ : Sg) : CT l G yX6_isKnown (ws_ yX6_isKnown cX6_isKnown 5 (some .boolean)) d [.ref (G.adr 6 0), rv G 1 (some c), .long nm] (mix pCs σ ρ) (rC σ (jKn σ k c nm)) := sorry
theorem sp_X6_reckoned (hG : GOK G) {k : Nat} (hd : 1 ≤ d) (hk : 12 ≤ k ∧ k ≤ 16) {x0 x y : Int32} (e : x0 = nI k) : CT l G yX6_reckoned (ws_ yX6_reckoned cX6_reckoned 3 (some .int)) d [.int x0, .int x, .int y] σ (rI (rck k x y) (fun s => s = σ)) := sorry
end SPX
