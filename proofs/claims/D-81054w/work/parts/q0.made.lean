/-! A build that is made: its uses. -/
/-- build b is made: LinkHouse's end s, the model's end u -/
def Mde (τ0 τ1 τ2 s u : Sg) (B : Nat → Nat) (n L r b : Nat) (cs : List CRc) : Prop := Ph2 τ0 τ1 τ2 B n L r b cs ∧ AIn (t3 τ2 b cs) τ0 s b cs.length (tgF (t3 τ2 b cs) b) (trB cs) cs.length ∧ JaD (t3 τ2 b cs) u B n b cs ∧ wFind τ0 1 6927257 = some 192 ∧ bdA (t3 τ2 b cs) b (trB cs) cs.length = .ok ()
/-- the table of its uses; where those of class i begin -/
noncomputable abbrev uMd (τ2 : Sg) (b : Nat) (cs : List CRc) : List Us := uA (t3 τ2 b cs) b (tgF (t3 τ2 b cs) b) (jA (t3 τ2 b cs) b (trB cs)) cs.length
noncomputable abbrev n0M (τ2 : Sg) (b : Nat) (cs : List CRc) (i : Nat) : Nat := (uA (t3 τ2 b cs) b (tgF (t3 τ2 b cs) b) (jA (t3 τ2 b cs) b (trB cs)) i).length
section MDE
variable {τ τ0 τ1 τ2 s u : Sg} {B : Nat → Nat} {n L r b k m t i : Nat} {cs : List CRc} {z : Tr × Lcs × Nat}
theorem urM {x0 : Tr} {a e : Nat} (hz : bdJ τ k m x0 = .ok z) (hw : ¬ τ.I 1200 m 0 = 0 → x0 = .leaf ∨ (kdO x0 = 30 ∧ ∃ w, wt x0 2 w a e)) (hb : τ.B 1206 m 0 = false) {q : Us} (hr : q ∈ ndM τ k m t z.1) : UrJ τ k q := sorry
theorem urB {x : Tr} (hb : τ.B 1206 m 0 = true) {q : Us} (hr : q ∈ ndM τ k m t x) : UrJ τ k q := sorry
theorem ndMs_in {tg : Nat → Nat} {tr : Nat → Tr} {q : Us} : ∀ (p j : Nat), q ∈ ndMs τ k tg tr p j → ∃ j', j ≤ j' ∧ j' < j + p ∧ q ∈ ndM τ k (33 * k + j') (tg j') (tr j') := sorry
theorem ndFc_in {q : Us} : ∀ (p j : Nat), q ∈ ndFc τ k p j → ∃ j', j ≤ j' ∧ j' < j + p ∧ q = uC k 19 (τ.L 1108 k j') := sorry
theorem UrJ.toK {q : Us} (h : UrJ τ k q) : UrK τ k q := sorry
/-- the records of a class -/
theorem urK_of {tg : Nat → Nat} {tr : Nat → Tr} (h1 : τ.B 1106 k 0 = true → τ.B 1102 k 0 = false) (hM : ∀ j, j < nMe τ k → ∀ q, q ∈ ndM τ k (33 * k + j) (tg j) (tr j) → UrJ τ k q) {q : Us} (hq : q ∈ ndK τ k tg tr) : UrK τ k q := sorry
theorem UrK.mv {q : Us} (h : UrK τ k q) (e1 : s.L 1107 k 0 = τ.L 1107 k 0) (e2 : s.B 1102 k 0 = τ.B 1102 k 0) (e3 : nFc s k = nFc τ k) (e4 : ∀ j, s.L 1108 k j = τ.L 1108 k j) (e5 : s.L 1100 k 0 = τ.L 1100 k 0) : UrK s k q := sorry
theorem Ph2.k126 (h : Ph2 τ0 τ1 τ2 B n L r b cs) (hi : i < cs.length) : (t3 τ2 b cs).R 1126 (12 * b + i) 0 = some b := sorry
theorem Ph2.ulen (h : Ph2 τ0 τ1 τ2 B n L r b cs) (hA : wFind τ0 1 6927257 = some 192) : (uMd τ2 b cs).length ≤ 1000 := sorry
theorem Ph2.noP (h : Ph2 τ0 τ1 τ2 B n L r b cs) (hi : i < cs.length) (hp : (t3 τ2 b cs).B 1106 (12 * b + i) 0 = true) : (t3 τ2 b cs).B 1102 (12 * b + i) 0 = false := sorry
theorem Mde.sm (h : Mde τ0 τ1 τ2 s u B n L r b cs) : SmJ (t3 τ2 b cs) s ∧ Shp s := sorry
theorem SmJ.r126 (h : SmJ τ s) : s.R 1126 k 0 = τ.R 1126 k 0 := sorry
/-- THE USES OF A CLASS -/
theorem Mde.utk (h : Mde τ0 τ1 τ2 s u B n L r b cs) (hi : i < cs.length) : UtK s b (12 * b + i) (n0M τ2 b cs i) (n0M τ2 b cs (i + 1)) (uMd τ2 b cs) := sorry
/-- .. and the model's -/
theorem Mde.mut (h : Mde τ0 τ1 τ2 s u B n L r b cs) : MUt u b (uMd τ2 b cs) := sorry
theorem Mde.urk (h : Mde τ0 τ1 τ2 s u B n L r b cs) (hi : i < cs.length) {q : Us} (hq : q ∈ uMd τ2 b cs) (hk : q.1 = 12 * b + i) : UrK s (12 * b + i) q := sorry
end MDE
