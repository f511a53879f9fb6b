/-! What sorts of uses judged trees need. -/
/-- a use of class k: calls above stand in a class that has a parent, or that names the face -/
def UrJ (τ : Sg) (k : Nat) (r : Us) : Prop := (r.2.1 = 11 → ∃ p, wPar τ 1 k = some p) ∧ (r.2.1 = 12 → kFac τ k r.2.2.1 = true) ∧ ¬ r.2.1 = 18 ∧ ¬ r.2.1 = 19
section URJ
variable {τ : Sg} {k : Nat}
theorem UrJ.of {r : Us} (h : r.2.1 < 11 ∨ (13 ≤ r.2.1 ∧ r.2.1 ≤ 17)) : UrJ τ k r := sorry
theorem ckU_some {st : Bool} {xo : Option Nat} {nm : Int64} {ts : List Int64} {t t2 m : Nat} (h : ckU τ k st xo nm ts t t2 = .ok m) : ∃ x, xo = some x := sorry
theorem urT {t w : Int64} {r : Us} (h : r ∈ fitU k t w) : UrJ τ k r := sorry
theorem urG {b : Lb} : UrJ τ k (gtU τ k b) := sorry
theorem urL {st : Bool} {Lc : Lcs} {b b' : Lb} {x y : Tr} (hb : ckN τ k st Lc b x y = .ok b') : UrJ τ k (uL τ k (clS τ b') (τ.L 1100 (cB b') 0) (mB b')) := sorry
/-- THE USES OF A JUDGED E -/
theorem urE {st : Bool} {Lc : Lcs} : ∀ (x x' : Tr) (ps : List Int64) (r : Us), ckE τ k st Lc x = .ok x' → r ∈ ndE τ k x' ps → UrJ τ k r := sorry
theorem ur_pt {x : Tr} {r : Us} (h : r ∈ ptU τ k x) : UrJ τ k r := sorry
theorem ur_po {x : Tr} {r : Us} (h : r ∈ ndE τ k (ptO x) []) : r ∈ ndE τ k x [] := sorry
theorem ur_pr {m : Nat} {R : List Us} {r : Us} (hR : ∀ q, q ∈ R → UrJ τ k q) (h : r ∈ prU τ k m R) : UrJ τ k r := sorry
/-- THE USES OF A JUDGED S -/
theorem urS {st : Bool} {ms : Int32} {mt : Int64} : ∀ (x : Tr) {m w a e f sn : Nat} {Lc : Lcs} {p : Tr × Lcs × Nat}, wt x m w a e → m = 2 ∨ m = 3 ∨ m = 4 ∨ m = 6 → ckS τ k st ms mt x f Lc sn = .ok p → ∀ r, r ∈ ndS τ k mt p.1 → UrJ τ k r := sorry
end URJ
