/-! TOOLS for the plain part: what is always valid, use of contracts, loops. -/
def Vld (σ : Sg) : Prop := ∀ c i j k, σ.R c i j = some k → k < cnt (tgt c)
theorem CT.vld {l : Launch} {G : Gl} {y : MethodName} {ws : List Cond} {d : Nat} {av : List Value} {σ : Sg} {Q : Outcome → Sg → Prop} (h : CT l G y ws d av σ Q) : CT l G y ws d av σ (fun o σ' => Q o σ' ∧ Vld σ') := sorry
theorem CT.pre {l : Launch} {G : Gl} {y : MethodName} {ws : List Cond} {d : Nat} {av : List Value} {σ : Sg} {Q : Outcome → Sg → Prop} (h : Vld σ → CT l G y ws d av σ Q) : CT l G y ws d av σ Q := sorry
/-- it returns v and leaves the tables σ' -/
def rI (v : Int32) (P : Sg → Prop) (o : Outcome) (σ : Sg) : Prop := o = .returned (some (.int v)) ∧ P σ
def rZ (b : Bool) (P : Sg → Prop) (o : Outcome) (σ : Sg) : Prop := o = .returned (some (.int (bI b))) ∧ P σ
def rL (v : Int64) (P : Sg → Prop) (o : Outcome) (σ : Sg) : Prop := o = .returned (some (.long v)) ∧ P σ
def rV (P : Sg → Prop) (o : Outcome) (σ : Sg) : Prop := o = .returned none ∧ P σ
def rR (G : Gl) (fam : Nat) (r : Option Nat) (P : Sg → Prop) (o : Outcome) (σ : Sg) : Prop := o = .returned (some (rv G fam r)) ∧ (∀ k, r = some k → k < cnt fam) ∧ P σ
section CTU
variable {l : Launch} {G : Gl} {y : MethodName} {ws : List Cond} {d : Nat} {av : List Value} {σ : Sg} {P : Sg → Prop} {T : Nat → Sg → Prop}
theorem CT.useI {v : Int32} {K : Int32 → Sg → Prop} (h : CT l G y ws d av σ (rI v P)) (k : ∀ σ', P σ' → K v σ') : CT l G y ws d av σ (oI K T) := sorry
theorem CT.useL {v : Int64} {K : Int64 → Sg → Prop} (h : CT l G y ws d av σ (rL v P)) (k : ∀ σ', P σ' → K v σ') : CT l G y ws d av σ (oL K T) := sorry
theorem CT.useV {K : Sg → Prop} (h : CT l G y ws d av σ (rV P)) (k : ∀ σ', P σ' → K σ') : CT l G y ws d av σ (oV K T) := sorry
theorem CT.useZ {b : Bool} {K : Bool → Sg → Prop} (h : CT l G y ws d av σ (rZ b P)) (k : ∀ σ', P σ' → K b σ') : CT l G y ws d av σ (oZ K T) := sorry
theorem CT.useR {fam : Nat} {r : Option Nat} {K : Option Nat → Sg → Prop} (h : CT l G y ws d av σ (rR G fam r P)) (k : ∀ σ', P σ' → K r σ') : CT l G y ws d av σ (oR G fam K T) := sorry
end CTU
/-- the first place of m ones from k on -/
def ffirst (p : Nat → Bool) : Nat → Nat → Option Nat
  | 0, _ => none
  | m + 1, k => if p k then some k else ffirst p m (k + 1)
def fany (p : Nat → Bool) : Nat → Nat → Bool
  | 0, _ => false
  | m + 1, k => p k || fany p m (k + 1)
def fcount (p : Nat → Bool) : Nat → Nat → Nat
  | 0, _ => 0
  | m + 1, k => (if p k then 1 else 0) + fcount p m (k + 1)
theorem ffirst_cong {p q : Nat → Bool} : ∀ (m k : Nat), (∀ j, k ≤ j → j < k + m → p j = q j) → ffirst p m k = ffirst q m k := sorry
theorem fany_cong {p q : Nat → Bool} : ∀ (m k : Nat), (∀ j, k ≤ j → j < k + m → p j = q j) → fany p m k = fany q m k := sorry
theorem ffirst_some {p : Nat → Bool} : ∀ (m k j : Nat), ffirst p m k = some j → k ≤ j ∧ j < k + m ∧ p j = true := sorry
theorem ffirst_none {p : Nat → Bool} : ∀ (m k : Nat), ffirst p m k = none ↔ ∀ j, k ≤ j → j < k + m → p j = false := sorry
theorem fany_iff {p : Nat → Bool} : ∀ (m k : Nat), fany p m k = true ↔ ∃ j, k ≤ j ∧ j < k + m ∧ p j = true := sorry
theorem ffirst_no {p : Nat → Bool} {n k : Nat} (h : p k = false) : ffirst p (n + 1) k = ffirst p n (k + 1) := sorry
theorem ffirst_yes {p : Nat → Bool} {n k : Nat} (h : p k = true) : ffirst p (n + 1) k = some k := sorry
theorem fany_step {p : Nat → Bool} {n k : Nat} {b q : Bool} (h : p k = q) : (b || fany p (n + 1) k) = ((b || q) || fany p n (k + 1)) := sorry
