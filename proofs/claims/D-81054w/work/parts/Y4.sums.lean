/-! Sums over the members of a class. -/
theorem MsW.fn : ∀ {ms : List MRc} {a e : Nat}, MsW ms a e → ∃ c : Nat → Nat, c 0 = a ∧ (∀ j mr, ms[j]? = some mr → WfT (c j) (c (j + 1)) mr) ∧ c ms.length < e := sorry
theorem KsW.fn : ∀ {cs : List CRc} {a e : Nat}, KsW cs a e → ∃ g h : Nat → Nat, g 0 = a ∧ (∀ i cr, cs[i]? = some cr → g i + 3 + 2 * cr.2.2.2.2.1.length + (if cr.2.2.2.1 = 0 then 0 else 2) ≤ h i ∧ MsW cr.2.2.2.2.2.2.2.2.2 (h i) (g (i + 1))) ∧ g cs.length ≤ e := sorry
def sumN (D : Nat → Nat) : Nat → Nat
  | 0 => 0
  | n + 1 => sumN D n + D n
theorem sumN_cg {D E : Nat → Nat} : ∀ (n : Nat), (∀ i, i < n → D i = E i) → sumN D n = sumN E n := sorry
theorem sumN_up {D : Nat → Nat} : ∀ (n d : Nat), sumN D n ≤ sumN D (n + d) := sorry
/-- how often -/
def cntN (F : Nat → Bool) : Nat → Nat
  | 0 => 0
  | n + 1 => cntN F n + (if F n = true then 1 else 0)
theorem fm20 : ∀ f, f < 21 → ∀ m, m < 21 → f + m ≤ 20 → 2 * f * m ≤ 12 * f + 10 * m := sorry
theorem sum_fm {D c : Nat → Nat} {F M : Nat → Bool} {f n : Nat} (hc : ∀ i, i < n → c i ≤ c (i + 1)) (hD : ∀ i, i < n → D i + (if F i = true then 12 else 0) + (if M i = true then 10 else 0) ≤ 4 * (c (i + 1) - c i) + (if M i = true then 2 * f else 0)) (hx : ∀ i, i < n → ¬ (F i = true ∧ M i = true)) (hf : f = cntN F n) (hn : n ≤ 20) : c 0 ≤ c n ∧ sumN D n + 4 * c 0 ≤ 4 * c n := sorry
theorem sum_1 {D c : Nat → Nat} {n q : Nat} (hD : ∀ i, i < n → c i ≤ c (i + 1) ∧ q * D i ≤ c (i + 1) - c i) : c 0 ≤ c n ∧ q * sumN D n + c 0 ≤ c n := sorry
theorem fsF_len {τ : Sg} {k : Nat} : ∀ (n j : Nat), j = 0 ∨ True → (fsF τ k n j).length + cntN (fun i => isFs τ (33 * k + i)) j = cntN (fun i => isFs τ (33 * k + i)) (j + n) := sorry
theorem cntN_no {F : Nat → Bool} {n : Nat} : ∀ (d : Nat), (∀ i, n ≤ i → i < n + d → F i = false) → cntN F (n + d) = cntN F n := sorry
/-! code of a member -/
theorem cdB_len {τ : Sg} {k m t : Nat} {ix : Us → Int32} (h : nPa τ m ≤ 4) : (cdB τ k m t ix).length ≤ 14 := sorry
theorem cdS_blk {τ : Sg} {k : Nat} {ix : Us → Int32} {fs : List Nat} {x : Tr} {w a e : Nat} (p : Nat) (hk : kdO x = 30) (hw : wt x 2 w a e) : a + 2 ≤ e ∧ 4 * a + 8 + (cdS τ k ix fs x p).length ≤ 4 * e + 2 * fs.length * n38 x := sorry
theorem hdS_blk {τ : Sg} {k : Nat} {ix : Us → Int32} {fs : List Nat} {x : Tr} {w a e : Nat} (p : Nat) (hw : wt x 2 w a e) : 7 * (hdS τ k ix fs x p).length + a ≤ e := sorry
/-- what is known of a judged tree X of the tokens fr..to -/
def JtW (τ : Sg) (m : Nat) (X : Tr) (fr to : Nat) : Prop := X = .leaf ∨ ((τ.I 1200 m 0 = 0 → ∃ w, wt X 0 w fr to) ∧ (¬ τ.I 1200 m 0 = 0 → kdO X = 30 ∧ (∃ w, wt X 2 w fr to) ∧ n38 X ≤ (if tlS X = true then 1 else 0) ∧ (¬ τ.I 1200 m 0 = 2 → n38 X = 0)))
/-- where its tokens lie in those of the member -/
def RgW (τ : Sg) (m fr to A E : Nat) : Prop := A < E ∧ (fr = 0 ∧ to = 0 ∧ isFs τ m = false ∧ ¬ τ.I 1200 m 0 = 2 ∨ (A + 1 ≤ fr ∧ fr < to ∧ to ≤ E ∧ (τ.I 1200 m 0 = 0 → A + 3 ≤ fr ∧ to + 1 ≤ E) ∧ (τ.I 1200 m 0 = 2 → A + 2 ≤ fr ∧ fr + 2 ≤ to)))
section MC
variable {τ : Sg} {k m fr to A E : Nat} {X : Tr}
theorem mkCd_len {ix : Us → Int32} : (mkCd τ k m X ix).length ≤ (if τ.I 1200 m 0 = 2 ∧ tlS X = false then 4 + 2 * (fsW τ k).length else 0) := sorry
theorem isFs_0 (h : isFs τ m = true) : τ.I 1200 m 0 = 0 := sorry
/-- the code of a told member -/
theorem cdM_len (hX : JtW τ m X fr to) (hR : RgW τ m fr to A E) (p : Nat) : (cdM τ k m X p (fun _ => 0)).length + (if isFs τ m = true then 12 else 0) + (if decide (τ.I 1200 m 0 = 2) = true then 10 else 0) ≤ 4 * (E - A) + (if decide (τ.I 1200 m 0 = 2) = true then 2 * (fsW τ k).length else 0) := sorry
theorem cdL_len (hX : JtW τ m X fr to) (hR : RgW τ m fr to A E) (p : Nat) : cdL τ k m X p + (if isFs τ m = true then 12 else 0) + (if decide (τ.I 1200 m 0 = 2) = true then 10 else 0) ≤ 4 * (E - A) + (if decide (τ.I 1200 m 0 = 2) = true then 2 * (fsW τ k).length else 0) := sorry
/-- the uses of a told member -/
theorem ndM_len (hX : JtW τ m X fr to) (hR : RgW τ m fr to A E) (hb : τ.B 1206 m 0 = false) {t : Nat} : (ndM τ k m t X).length ≤ E - A := sorry
/-- the catches of a told member -/
theorem hdM_len (hX : JtW τ m X fr to) (hR : RgW τ m fr to A E) (p : Nat) : 7 * (hdM τ k m X p (fun _ => 0)).length ≤ E - A := sorry
end MC
