/-! The row of parents of what is loaded ends -/
/-- the two classes that are always there -/
def BIK (σ : Sg) : Prop := 2 ≤ nWd σ 0 ∧ wK σ 0 0 = 192 ∧ wK σ 0 1 = 193 ∧ σ.L 1100 192 0 = 6927257 ∧ σ.L 1100 193 0 = 6959884 ∧ σ.I 1101 192 0 = 26 ∧ σ.I 1101 193 0 = 26 ∧ σ.L 1107 193 0 = 6927257 ∧ σ.B 1102 193 0 = false ∧ σ.B 1102 192 0 = false ∧ nFc σ 192 = 0 ∧ nFc σ 193 = 0 ∧ ∀ k, k ∈ wKs σ 0 → σ.I 1101 k 0 = 26 → k = 192 ∨ k = 193
theorem BIK.any {σ : Sg} (h : BIK σ) : wFind σ 0 6927257 = some 192 := sorry
theorem BIK.p192 {σ : Sg} (h : BIK σ) : wPar σ 0 192 = none := sorry
theorem BIK.p193 {σ : Sg} (h : BIK σ) : wPar σ 0 193 = some 192 := sorry
/-- a class that is loaded, or built in -/
def Ldd (σ : Sg) (st : LSt) (k : Nat) : Prop := k ∈ wKs σ 0 ∧ (σ.I 1101 k 0 = 26 ∨ st.1 (nW σ k) = 1)
def IsUp (σ : Sg) : Option Nat → List Nat → Prop
  | none, [] => True
  | some k, a :: L => a = k ∧ IsUp σ (wPar σ 0 k) L
  | _, _ => False
theorem up_exists {σ : Sg} (hB : BIK σ) {st : LSt} (hC : LCL σ st) {k : Nat} (hk : Ldd σ st k) : ∃ L, IsUp σ (some k) L ∧ L.Nodup ∧ ∀ x, x ∈ L → Ldd σ st x := sorry
/-- the row of parents -/
def wUpF (σ : Sg) : Nat → Option Nat → List Nat
  | 0, _ => []
  | _ + 1, none => []
  | n + 1, some k => k :: wUpF σ n (wPar σ 0 k)
def wUps (σ : Sg) (k : Nat) : List Nat := wUpF σ 64 (some k)
theorem IsUp.fuel {σ : Sg} : ∀ (n : Nat) (c : Option Nat) (L : List Nat), IsUp σ c L → L.length ≤ n → wUpF σ n c = L := sorry
theorem wUps_ok {σ : Sg} (hW : WOK σ 0) (hB : BIK σ) {st : LSt} (hC : LCL σ st) {k : Nat} (hk : Ldd σ st k) : IsUp σ (some k) (wUps σ k) ∧ (wUps σ k).Nodup ∧ (∀ x, x ∈ wUps σ k → Ldd σ st x) ∧ (wUps σ k).length ≤ 62 := sorry
theorem wUpF_st {σ : Sg} : ∀ n c, wUpF (stat σ) n c = wUpF σ n c := sorry
theorem wUps_mix {p : Nat → Nat → Bool} {σ ρ : Sg} (h : ∀ c i, sc c = true → p c i = false) {k : Nat} : wUps (mix p σ ρ) k = wUps σ k := sorry
