/-! Members of a build that is made are well typed. -/
/-- the members of other classes of the world -/
def OtX (τ0 : Sg) (b : Nat) : Prop := ∀ c, c ∈ wKs τ0 1 → (c < 12 * b ∨ 12 * b + 12 ≤ c) → ∀ j, j < nMe τ0 c → MbX τ0 (33 * c + j)
/-- the number of a use in class i -/
noncomputable abbrev ixM (τ2 : Sg) (b : Nat) (cs : List CRc) (i : Nat) : Us → Nat := fun r => uIx (uMd τ2 b cs) r - n0M τ2 b cs i
/-- the trees of a build as they run -/
def PgB (τ2 : Sg) (b : Nat) (cs : List CRc) (P : Pg) : Prop := ∀ i j, i < cs.length → j < nMe (t3 τ2 b cs) (12 * b + i) → P.1 (33 * (12 * b + i) + j) = rtB (t3 τ2 b cs) (12 * b + i) (33 * (12 * b + i) + j) (ixM τ2 b cs i) (jA (t3 τ2 b cs) b (trB cs) i j) ∧ P.2 (33 * (12 * b + i) + j) = ruB (t3 τ2 b cs) (12 * b + i) (33 * (12 * b + i) + j) (tgF (t3 τ2 b cs) b i j) (ixM τ2 b cs i) (jA (t3 τ2 b cs) b (trB cs) i j)
section MWT
variable {τ τ0 τ1 τ2 s u : Sg} {B : Nat → Nat} {n L r b k m t i j : Nat} {cs : List CRc} {z : Tr × Lcs × Nat} {P : Pg}
theorem Ph2.allx (h : Ph2 τ0 τ1 τ2 B n L r b cs) (hX : OtX τ0 b) {m : Nat} (hm : LivU (t3 τ2 b cs) (wKs (t3 τ2 b cs) 1) m) : MbX (t3 τ2 b cs) m := sorry
theorem Mde.wth (h : Mde τ0 τ1 τ2 s u B n L r b cs) (hX : OtX τ0 b) (hi : i < cs.length) : WtH (t3 τ2 b cs) s (12 * b + i) (ixM τ2 b cs i) (uMd τ2 b cs) := sorry
theorem Ph2.m33 (h : Ph2 τ0 τ1 τ2 B n L r b cs) (hi : i < cs.length) (hj : j < nMe (t3 τ2 b cs) (12 * b + i)) : 33 * (12 * b + i) + j < 6402 ∧ j < 33 := sorry
theorem Mde.mse (h : Mde τ0 τ1 τ2 s u B n L r b cs) (hi : i < cs.length) (hj : j < nMe (t3 τ2 b cs) (12 * b + i)) : MsE (t3 τ2 b cs) s (12 * b + i) (33 * (12 * b + i) + j) := sorry
theorem Ph2.mbg (h : Ph2 τ0 τ1 τ2 B n L r b cs) (hA : wFind τ0 1 6927257 = some 192) (hX : OtX τ0 b) (hi : i < cs.length) (hj : j < nMe (t3 τ2 b cs) (12 * b + i)) (hb : (t3 τ2 b cs).B 1206 (33 * (12 * b + i) + j) 0 = false) : ∃ a e, MbG (t3 τ2 b cs) (12 * b + i) (33 * (12 * b + i) + j) (trB cs i j) a e ∧ e ≤ 700 := sorry
theorem ndMs_mem {tg : Nat → Nat} {tr : Nat → Tr} {q : Us} : ∀ (p j j' : Nat), j ≤ j' → j' < j + p → q ∈ ndM τ k (33 * k + j') (tg j') (tr j') → q ∈ ndMs τ k tg tr p j := sorry
/-- a member's uses are in the table -/
theorem uMd_m {q : Us} (hi : i < cs.length) (hj : j < nMe (t3 τ2 b cs) (12 * b + i)) (h : q ∈ ndM (t3 τ2 b cs) (12 * b + i) (33 * (12 * b + i) + j) (tgF (t3 τ2 b cs) b i j) (jA (t3 τ2 b cs) b (trB cs) i j)) : q ∈ uMd τ2 b cs := sorry
/-- how many slots a body takes -/
theorem bdJ_ln {x0 : Tr} {a e : Nat} (hW : WOK τ 1) (hk : wFind τ 1 (τ.L 1100 k 0) = some k) (hP : ∀ m, LivU τ (wKs τ 1) m → nPa τ m ≤ 4) (hg : MbG τ k m x0 a e) (hp : pcd x0) (hz : bdJ τ k m x0 = .ok z) : 5 * jn τ k m x0 ≤ (e - a) + 5 * (bSn τ m + nPa τ m) := sorry
/-- MEMBERS OF A MADE BUILD ARE WELL TYPED -/
theorem Mde.wtm (h : Mde τ0 τ1 τ2 s u B n L r b cs) (hX : OtX τ0 b) (hq : ∀ i j, pcd (trB cs i j)) (hP : PgB τ2 b cs P) (hi : i < cs.length) (hj : j < nMe (t3 τ2 b cs) (12 * b + i)) : wtM s P (12 * b + i) (33 * (12 * b + i) + j) := sorry
end MWT
