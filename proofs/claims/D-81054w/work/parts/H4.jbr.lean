/-! Judging, LinkHouse: bridges to one class. -/
abbrev BrL : Type := List (Nat × Int64)
/-- a bridge from m for o is wanted -/
def brW (τ : Sg) (m : Nat) (Bs : BrL) (o : Nat) : Bool := !τ.B 1203 o 0 && (!decide (τ.L 1207 o 0 = τ.L 1207 m 0) && !Bs.any (fun p => decide (p.1 = m) && decide (p.2 = τ.L 1207 o 0)))
def brO (τ : Sg) (k m : Nat) (Bs : BrL) (o : Nat) : PR BrL := if brW τ m Bs o = true then (if Bs.length = 12 then .error (3, tkN (τ.I 1124 k 0)) else .ok (Bs ++ [(m, τ.L 1207 o 0)])) else .ok Bs
def brF (τ : Sg) (k m : Nat) : List Nat → BrL → PR BrL
  | [], Bs => .ok Bs
  | o :: os, Bs => bnd (brO τ k m Bs o) fun Bs' => brF τ k m os Bs'
theorem fall_cong {p q : Nat → Bool} : ∀ (n k : Nat), (∀ j, k ≤ j → j < k + n → p j = q j) → fall p n k = fall q n k := sorry
/-- the columns of n bridges of class k, behind T members -/
def pBr (k T n c i : Nat) : Bool := (rg 1116 1118 c && Nat.beq i k) || ((rg 1199 1222 c && (Nat.ble (33 * k + T) i && Nat.ble (i + 1) (33 * k + T + n))) || rg 1303 1313 c)
theorem pBr_iff {k T n c i : Nat} : pBr k T n c i = true ↔ (1116 < c ∧ c ≤ 1118 ∧ i = k) ∨ (1199 < c ∧ c ≤ 1222 ∧ 33 * k + T ≤ i ∧ i < 33 * k + T + n) ∨ (1303 < c ∧ c ≤ 1313) := sorry
theorem pBr_no {k T n c i : Nat} (h : ¬ ((1116 < c ∧ c ≤ 1118 ∧ i = k) ∨ (1199 < c ∧ c ≤ 1222 ∧ 33 * k + T ≤ i ∧ i < 33 * k + T + n) ∨ (1303 < c ∧ c ≤ 1313))) : pBr k T n c i = false := sorry
/-- member q is a bridge from m, of result t -/
def NBf (τ σ : Sg) (k q m : Nat) (t : Int64) : Prop := MB σ q k (nwI 1 (τ.I 1202 m 0) (τ.I 1208 m 0)) (nwB (τ.B 1203 m 0) true) (nwL (τ.L 1201 m 0) t) (-2) (-2) (-2) ∧ ∀ i, i < nPa τ m → σ.L 1209 q i = τ.L 1209 m i
/-- the bridges of class k so far -/
def BI (τ σ : Sg) (k T : Nat) (Bs : BrL) : Prop := Fl (pBr k T Bs.length) τ σ ∧ σ.I 1117 k 0 = nI (T + Bs.length) ∧ σ.I 1118 k 0 = nI Bs.length ∧ Bs.length ≤ 12 ∧ ∀ i p, Bs[i]? = some p → NBf τ σ k (33 * k + T + i) p.1 p.2 ∧ ∃ j, j < T ∧ p.1 = 33 * k + j ∧ τ.I 1200 p.1 0 = 1 ∧ τ.B 1206 p.1 0 = false
/-- what class k is, before its bridges -/
def BK (τ : Sg) (k T : Nat) : Prop := k < 192 ∧ T ≤ 21 ∧ nMe τ k = T ∧ UqM τ k ∧ Shp τ ∧ WOK τ 1 ∧ ∀ j, j < T → τ.B 1206 (33 * k + j) 0 = false
section BI
variable {τ σ : Sg} {k T : Nat} {Bs : BrL}
theorem BI.shp (hK : BK τ k T) (h : BI τ σ k T Bs) : Shp σ := sorry
theorem BI.wok (hK : BK τ k T) (h : BI τ σ k T Bs) : WOK σ 1 := sorry
theorem mPar_fl {p : Nat → Nat → Bool} {a c : Nat} (hF : Fl p τ σ) (h8a : p 1208 a = false) (h8c : p 1208 c = false) (h9a : p 1209 a = false) (h9c : p 1209 c = false) : mPar σ a c = mPar τ a c := sorry
theorem mAlk_fl {p : Nat → Nat → Bool} {a c : Nat} (hF : Fl p τ σ) (h : ∀ x, 1199 < x → x ≤ 1222 → p x a = false ∧ p x c = false) : mAlk σ a c = mAlk τ a c := sorry
theorem BI.out (h : BI τ σ k T Bs) {c i : Nat} (hc : ¬ c = k) (hi : i < 33) (hT : T + Bs.length ≤ 33) : ∀ x, 1199 < x → x ≤ 1222 → pBr k T Bs.length x (33 * c + i) = false := sorry
theorem BI.inn (h : BI τ σ k T Bs) {j : Nat} (hj : j < T) : ∀ x, 1199 < x → x ≤ 1222 → pBr k T Bs.length x (33 * k + j) = false := sorry
theorem BI.jab (hK : BK τ k T) (h : BI τ σ k T Bs) {c i j : Nat} (hc : ¬ c = k) (hi : i < 33) (hj : j < T) (hof : τ.R 1222 (33 * c + i) 0 = some c) : jAb σ k (33 * c + i) (33 * k + j) = jAb τ k (33 * c + i) (33 * k + j) := sorry
/-- a bridge's sign -/
theorem NBf.one (hK : BK τ k T) {q m o : Nat} {t : Int64} (h : NBf τ σ k q m t) (hm : τ.I 1200 m 0 = 1) (h8 : σ.I 1208 o 0 = τ.I 1208 o 0) (h9 : ∀ i, σ.L 1209 o i = τ.L 1209 o i) (h0 : σ.I 1200 o 0 = τ.I 1200 o 0) (h1 : σ.L 1201 o 0 = τ.L 1201 o 0) (h7 : σ.L 1207 o 0 = τ.L 1207 o 0) : mOne σ q o = (mAlk τ m o && decide (t = τ.L 1207 o 0)) := sorry
/-- whether class k has a method as o is: just the bridges from m count -/
theorem BI.met (hK : BK τ k T) (h : BI τ σ k T Bs) {c i j : Nat} (hc : ¬ c = k) (hi : i < 33) (hj : j < T) (hA : jAb τ k (33 * c + i) (33 * k + j) = true) (hty : ¬ τ.L 1207 (33 * c + i) 0 = τ.L 1207 (33 * k + j) 0) : kMet σ k (33 * c + i) = none ↔ Bs.any (fun p => decide (p.1 = 33 * k + j) && decide (p.2 = τ.L 1207 (33 * c + i) 0)) = false := sorry
end BI
