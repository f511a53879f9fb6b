/-! What must be known behind the constants. -/
theorem jHd_ok {τ : Sg} {b k : Nat} {u : Unit} (h : jHd τ b k = .ok u) : wFind τ 1 (τ.L 1100 k 0) = some k ∧ (τ.B 1106 k 0 = true → ∃ p, wFind τ 1 (τ.L 1107 k 0) = some p) := sorry
theorem wt_P {x : Tr} {m w a e : Nat} (hm : m = 0 ∨ m = 2) (h : wt x m w a e) : isP x = false := sorry
section OWN
variable {τ0 τ1 τ2 : Sg} {B : Nat → Nat} {n L r b : Nat} {cs : List CRc}
/-- the snapshot behind the constants -/
noncomputable abbrev t3 (τ2 : Sg) (b : Nat) (cs : List CRc) : Sg := csA b (trB cs) cs.length 0 τ2
theorem Ph2.cs3 : CsP τ2 (t3 τ2 b cs) := sorry
theorem Ph2.w3 (h : Ph2 τ0 τ1 τ2 B n L r b cs) : wKs (t3 τ2 b cs) 1 = wKs τ0 1 := sorry
theorem Ph2.all3 (h : Ph2 τ0 τ1 τ2 B n L r b cs) {c : Nat} (hc : c ∈ wKs (t3 τ2 b cs) 1) : KGd (t3 τ2 b cs) c := sorry
/-- LinkHouse's static columns of classes through the phases -/
theorem Ph2.kL (h : Ph2 τ0 τ1 τ2 B n L r b cs) {x c j : Nat} (a1 : 1099 < x) (a2 : x ≤ 1116) : (t3 τ2 b cs).L x c j = τ0.L x c j := sorry
theorem Ph2.kB (h : Ph2 τ0 τ1 τ2 B n L r b cs) {x c j : Nat} (a1 : 1099 < x) (a2 : x ≤ 1116) : (t3 τ2 b cs).B x c j = τ0.B x c j := sorry
theorem Ph2.fnd (h : Ph2 τ0 τ1 τ2 B n L r b cs) {nm : Int64} : wFind (t3 τ2 b cs) 1 nm = wFind τ0 1 nm := sorry
theorem Ph2.own_in (h : Ph2 τ0 τ1 τ2 B n L r b cs) {i : Nat} (hi : i < cs.length) : 12 * b + i ∈ wKs (t3 τ2 b cs) 1 := sorry
/-- a class that is no face has a parent -/
theorem Ph2.par (h : Ph2 τ0 τ1 τ2 B n L r b cs) (hA : wFind τ0 1 6927257 = some 192) {i : Nat} (hi : i < cs.length) (hf : τ0.B 1102 (12 * b + i) 0 = false) : ∃ p, wPar (t3 τ2 b cs) 1 (12 * b + i) = some p := sorry
theorem Ph2.mI (h : Ph2 τ0 τ1 τ2 B n L r b cs) {i j x y : Nat} (hi : i < cs.length) (hj : j < nMe τ0 (12 * b + i)) (a1 : 1199 < x) (a2 : x ≤ 1202 ∨ (1205 < x ∧ x ≤ 1211) ∨ (1213 < x ∧ x ≤ 1220)) : (t3 τ2 b cs).I x (33 * (12 * b + i) + j) y = τ0.I x (33 * (12 * b + i) + j) y := sorry
/-- a member that is told -/
theorem Ph2.told (h : Ph2 τ0 τ1 τ2 B n L r b cs) {i j : Nat} (hi : i < cs.length) (hj : j < nMe τ0 (12 * b + i)) : PmW (t3 τ2 b cs) (33 * (12 * b + i) + j) r ∧ TkB ((t3 τ2 b cs).I 1214 (33 * (12 * b + i) + j) 0) r ∧ ((t3 τ2 b cs).I 1219 (33 * (12 * b + i) + j) 0 = -2 ∧ (t3 τ2 b cs).I 1220 (33 * (12 * b + i) + j) 0 = 0) ∧ (τ0.I 1200 (33 * (12 * b + i) + j) 0 = 2 → τ0.B 1102 (12 * b + i) 0 = false) ∧ (τ0.I 1200 (33 * (12 * b + i) + j) 0 = 3 → nPa (t3 τ2 b cs) (33 * (12 * b + i) + j) = 0) := sorry
theorem Ph2.sort (h : Ph2 τ0 τ1 τ2 B n L r b cs) {m : Nat} : (t3 τ2 b cs).I 1200 m 0 = τ2.I 1200 m 0 ∧ (t3 τ2 b cs).B 1206 m 0 = τ2.B 1206 m 0 ∧ (t3 τ2 b cs).I 1218 m 0 = τ2.I 1218 m 0 := sorry
theorem Ph2.n3 (h : Ph2 τ0 τ1 τ2 B n L r b cs) (c : Nat) : nMe (t3 τ2 b cs) c = nMe τ2 c := sorry
/-- a member with a body, or the given maker -/
theorem Ph2.lbs (h : Ph2 τ0 τ1 τ2 B n L r b cs) (hA : wFind τ0 1 6927257 = some 192) {i j : Nat} (hi : i < cs.length) (hj : j < nMe τ2 (12 * b + i)) (hb : τ2.B 1206 (33 * (12 * b + i) + j) 0 = false) : LBs (t3 τ2 b cs) (12 * b + i) (33 * (12 * b + i) + j) r L (trB cs i j) (frB cs i j) (toB cs i j) := sorry
/-- a bridge -/
theorem Ph2.lbb (h : Ph2 τ0 τ1 τ2 B n L r b cs) {i j : Nat} (hi : i < cs.length) (hj : j < nMe τ2 (12 * b + i)) (hb : τ2.B 1206 (33 * (12 * b + i) + j) 0 = true) : LBb (t3 τ2 b cs) (12 * b + i) (33 * (12 * b + i) + j) (tgF (t3 τ2 b cs) b i j) := sorry
/-- all but the bounds -/
theorem Ph2.l3 (h : Ph2 τ0 τ1 τ2 B n L r b cs) (hA : wFind τ0 1 6927257 = some 192) (hcd : ∀ i, i < cs.length → ∀ x nm ts, x < 194 → (jCds (t3 τ2 b cs) (12 * b + i) x nm ts).length ≤ 1344) (hbU : ∀ i j, i < cs.length → j ≤ nMe (t3 τ2 b cs) (12 * b + i) → (addL (uA (t3 τ2 b cs) b (tgF (t3 τ2 b cs) b) (jA (t3 τ2 b cs) b (trB cs)) i) (usM (t3 τ2 b cs) (12 * b + i) (tgF (t3 τ2 b cs) b i) (jA (t3 τ2 b cs) b (trB cs) i) j)).length ≤ 1000) (hbP : ∀ i j, i < cs.length → j < nMe (t3 τ2 b cs) (12 * b + i) → psM (t3 τ2 b cs) (12 * b + i) (tgF (t3 τ2 b cs) b i) (jA (t3 τ2 b cs) b (trB cs) i) (psA (t3 τ2 b cs) b (tgF (t3 τ2 b cs) b) (jA (t3 τ2 b cs) b (trB cs)) i) j + clX (t3 τ2 b cs) (12 * b + i) (33 * (12 * b + i) + j) (tgF (t3 τ2 b cs) b i j) (jA (t3 τ2 b cs) b (trB cs) i j) (psM (t3 τ2 b cs) (12 * b + i) (tgF (t3 τ2 b cs) b i) (jA (t3 τ2 b cs) b (trB cs) i) (psA (t3 τ2 b cs) b (tgF (t3 τ2 b cs) b) (jA (t3 τ2 b cs) b (trB cs)) i) j) ≤ 6000) (hbQ : ∀ i j, i < cs.length → j < nMe (t3 τ2 b cs) (12 * b + i) → qsM (t3 τ2 b cs) (12 * b + i) (tgF (t3 τ2 b cs) b i) (jA (t3 τ2 b cs) b (trB cs) i) (psA (t3 τ2 b cs) b (tgF (t3 τ2 b cs) b) (jA (t3 τ2 b cs) b (trB cs)) i) (qsA (t3 τ2 b cs) b (tgF (t3 τ2 b cs) b) (jA (t3 τ2 b cs) b (trB cs)) i) (j + 1) ≤ 100) : LA3 τ0 (t3 τ2 b cs) b (yTok B n) r L cs.length (trB cs) (frB cs) (toB cs) := sorry
end OWN
