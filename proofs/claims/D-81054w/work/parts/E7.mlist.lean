/-! The model reads a row of classes. -/
/-- the row of fa1, fa2 from fr on is that of ts -/
def RQ (u : Sg) (T : Nat → Tk) (fa1 fa2 fr : Nat) (ts : List Nat) : Prop := ∀ k t, ts[k]? = some t → u.L fa1 0 (fr + k) = lN ((T t).2.1 + 2305843009213693952) ∧ u.I fa2 0 (fr + k) = nI (T t).2.2.1
theorem RQ.fj {u u' : Sg} {T : Nat → Tk} {fa1 fa2 fr : Nat} {ts : List Nat} {p : Nat → Nat → Bool} (h : RQ u T fa1 fa2 fr ts) (hF : FJ p u u') (hp1 : ∀ k, k < ts.length → p fa1 (fr + k) = false) (hp2 : ∀ k, k < ts.length → p fa2 (fr + k) = false) : RQ u' T fa1 fa2 fr ts := sorry
/-- the columns of a row -/
def pLs (fa1 fa2 lo hi c i : Nat) : Bool := pG c i || ((Nat.beq c fa1 || Nat.beq c fa2) && (Nat.ble lo i && Nat.ble (i + 1) hi))
theorem pLs_iff {fa1 fa2 lo hi c i : Nat} : pLs fa1 fa2 lo hi c i = true ↔ (2119 < c ∧ c ≤ 2122) ∨ ((c = fa1 ∨ c = fa2) ∧ lo ≤ i ∧ i < hi) := sorry
theorem pLs_no {fa1 fa2 lo hi c i : Nat} (h : ¬ ((2119 < c ∧ c ≤ 2122) ∨ ((c = fa1 ∨ c = fa2) ∧ lo ≤ i ∧ i < hi))) : pLs fa1 fa2 lo hi c i = false := sorry
theorem pG_pLs {fa1 fa2 lo hi : Nat} : ∀ c i, pG c i = true → pLs fa1 fa2 lo hi c i = true := sorry
theorem pRow_1 {T : Nat → Tk} {most g k t : Nat} : pRow T most (g + 1) k t = bnd (pWn T (decide (k = most)) 2 t) fun t1 => bnd (pHa T 44 t1) fun y => if y.1 = true then (bnd (pRow T most g (k + 1) y.2) fun z => .ok (t :: z.1, z.2)) else .ok ([t], t1) := sorry
/-- what reading a row leaves -/
def oLs (σ : Sg) (s : Nat) (B : Nat → Nat) (n w e fa1 fa2 fr most g k : Nat) (r : PR Nat) (u : Sg) (x : Int32) : Prop := FJ (pLs fa1 fa2 (fr + k) (fr + most)) σ u ∧ PS u s B n w e (bnd r fun t => bnd (pRow (yTok B n) most g k t) fun a => .ok a.2) ∧ ∀ t a, r = .ok t → pRow (yTok B n) most g k t = .ok a → x = nI (k + a.1.length) ∧ k + a.1.length ≤ most ∧ RQ u (yTok B n) fa1 fa2 (fr + k) a.1
section SPX
variable {l : Launch} {G : Gl}
theorem mx_lsl (hG : GOK G) {B : Nat → Nat} {n w e d s fa1 fa2 fr most N : Nat} (hd : 3 ≤ d) (hN : fr + most ≤ N) (hN2 : N < 2 ^ 31) (h8 : most ≤ 8) (hc : 2122 < fa1 ∧ fa1 < 2141 ∧ 2122 < fa2 ∧ fa2 < 2141) : ∀ (g k : Nat) (σ : Sg) (r : PR Nat) (Q : Outcome → Sg → Prop), k + g = 10 → k ≤ most → PS σ s B n w e r → (∀ u x, oLs σ s B n w e fa1 fa2 fr most g k r u x → Q (.returned (some (.int x))) u) → wq_X11_list_6 l G d 0 fa1 N 0 fa2 N 0 (nI fr) (nI most) Q g (nI k) true σ := sorry
theorem mx_list (hG : GOK G) {B : Nat → Nat} {n w e d s fa1 fa2 fr most N : Nat} {σ : Sg} {r : PR Nat} (hd : 4 ≤ d) (hA1 : LA fa1 N) (hA2 : IA fa2 N) (hi1 : 0 < cnt fa1) (hi2 : 0 < cnt fa2) (hN : fr + most ≤ N) (hN2 : N < 2 ^ 31) (h8 : most ≤ 8) (hc : 2122 < fa1 ∧ fa1 < 2141 ∧ 2122 < fa2 ∧ fa2 < 2141) (h : PS σ s B n w e r) {x y : Int32} (hx : x = nI fr) (hy : y = nI most) : CT l G yX11_list (ws_ yX11_list cX11_list 8 (some .int)) d [.ref (G.adr 11 0), .ref (G.adr fa1 0), .ref (G.adr fa2 0), .int x, .int y] σ (fun o u => ∃ x, o = .returned (some (.int x)) ∧ oLs σ s B n w e fa1 fa2 fr most 10 0 r u x) := sorry
end SPX
