/-! The bounds of a build: uses, code, catches. -/
theorem psM_sum {τ : Sg} {k : Nat} {tg : Nat → Nat} {tr : Nat → Tr} {p0 : Nat} : ∀ j, psM τ k tg tr p0 j = p0 + sumN (fun j => (cdX τ k (33 * k + j) (tg j) (tr j) (psM τ k tg tr p0 j) fun _ => 0).length) j := sorry
theorem qsM_sum {τ : Sg} {k : Nat} {tg : Nat → Nat} {tr : Nat → Tr} {p0 q0 : Nat} : ∀ j, qsM τ k tg tr p0 q0 j = q0 + sumN (fun j => (hdX τ k (33 * k + j) (tr j) (psM τ k tg tr p0 j) fun _ => 0).length) j := sorry
theorem usM_sum {τ : Sg} {k : Nat} {tg : Nat → Nat} {tr : Nat → Tr} : ∀ j, (usM τ k tg tr j).length = (usM τ k tg tr 0).length + sumN (fun j => (ndM τ k (33 * k + j) (tg j) (tr j)).length) j := sorry
theorem sumN_add {D : Nat → Nat} {n q : Nat} : ∀ (d : Nat), (∀ i, n ≤ i → i < n + d → D i ≤ q) → sumN D (n + d) ≤ sumN D n + q * d := sorry
theorem ndFc_len {τ : Sg} {k : Nat} : ∀ (n j : Nat), (ndFc τ k n j).length = n := sorry
theorem addL_ln : ∀ (R U : List Us), (addL U R).length ≤ U.length + R.length := sorry
section BN
variable {τ0 τ1 τ2 : Sg} {B : Nat → Nat} {n L r b : Nat} {cs : List CRc}
theorem Ph2.okw (h : Ph2 τ0 τ1 τ2 B n L r b cs) : OkW (t3 τ2 b cs) ∧ Shp (t3 τ2 b cs) ∧ WOK (t3 τ2 b cs) 1 := sorry
theorem Ph2.fnk (h : Ph2 τ0 τ1 τ2 B n L r b cs) {i : Nat} (hi : i < cs.length) : wFind (t3 τ2 b cs) 1 ((t3 τ2 b cs).L 1100 (12 * b + i) 0) = some (12 * b + i) := sorry
/-- a told member is no bridge -/
theorem Ph2.nbr (h : Ph2 τ0 τ1 τ2 B n L r b cs) {i j : Nat} (hi : i < cs.length) (hj : j < nMe τ0 (12 * b + i)) : (t3 τ2 b cs).B 1206 (33 * (12 * b + i) + j) 0 = false ∧ j < nMe τ2 (12 * b + i) := sorry
theorem Ph2.mbr (h : Ph2 τ0 τ1 τ2 B n L r b cs) (hA : wFind τ0 1 6927257 = some 192) {i j A E : Nat} {mr : MRc} (hi : i < cs.length) (hj : j < nMe τ0 (12 * b + i)) (e : mrX cs i j = some mr) (hw : WfT A E mr) : JtW (t3 τ2 b cs) (33 * (12 * b + i) + j) (jA (t3 τ2 b cs) b (trB cs) i j) (frB cs i j) (toB cs i j) ∧ RgW (t3 τ2 b cs) (33 * (12 * b + i) + j) (frB cs i j) (toB cs i j) A E := sorry
/-- members that are not told: the given maker, and bridges -/
theorem Ph2.newm (h : Ph2 τ0 τ1 τ2 B n L r b cs) (hA : wFind τ0 1 6927257 = some 192) {i j : Nat} (hi : i < cs.length) (hn : nMe τ0 (12 * b + i) ≤ j) (hj : j < nMe τ2 (12 * b + i)) : jA (t3 τ2 b cs) b (trB cs) i j = .leaf ∧ isFs (t3 τ2 b cs) (33 * (12 * b + i) + j) = false ∧ (((t3 τ2 b cs).B 1206 (33 * (12 * b + i) + j) 0 = false ∧ (t3 τ2 b cs).I 1200 (33 * (12 * b + i) + j) 0 = 2 ∧ j = nMe τ0 (12 * b + i) ∧ needM τ1 (12 * b + i) = true) ∨ ((t3 τ2 b cs).B 1206 (33 * (12 * b + i) + j) 0 = true ∧ nPa (t3 τ2 b cs) (33 * (12 * b + i) + j) ≤ 4)) := sorry
/-- how many members there are -/
theorem Ph2.cntm (h : Ph2 τ0 τ1 τ2 B n L r b cs) {i : Nat} (hi : i < cs.length) : nMe τ0 (12 * b + i) ≤ 20 ∧ nMe τ0 (12 * b + i) ≤ nMe τ2 (12 * b + i) ∧ nMe τ2 (12 * b + i) ≤ nMe τ0 (12 * b + i) + (if needM τ1 (12 * b + i) = true then 1 else 0) + 12 := sorry
/-- the class's fields that are laid first -/
theorem Ph2.fsw (h : Ph2 τ0 τ1 τ2 B n L r b cs) (hA : wFind τ0 1 6927257 = some 192) {i : Nat} (hi : i < cs.length) : (fsW (t3 τ2 b cs) (12 * b + i)).length = cntN (fun j => isFs (t3 τ2 b cs) (33 * (12 * b + i) + j)) (nMe τ0 (12 * b + i)) := sorry
end BN
