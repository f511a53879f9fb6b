/-! Judging, LinkHouse: a type at a token, what a member may be, its slot. -/
/-- the class that a token names, for class k -/
def jKd (σ : Sg) (k : Nat) (T : Nat → Tk) (t : Nat) : PR Nat := match wFind σ 1 (lN (T t).2.1) with
  | none => .error (7, t)
  | some c => if kOpn σ c k = true then .ok c else .error (7, t)
/-- a type at a token -/
def jTy (σ : Sg) (k : Nat) (T : Nat → Tk) (t : Nat) : PR Unit := if (T t).1 = 216 then .ok () else bnd (jKd σ k T t) fun _ => .ok ()
/-- what a member may be -/
def jMay (σ : Sg) (k m : Nat) : Bool := if σ.B 1102 k 0 = true then (if σ.I 1200 m 0 = 0 then !σ.B 1205 m 0 && (decide (σ.I 1202 m 0 = 3) && !decide (σ.I 1218 m 0 = (-2))) else if σ.I 1200 m 0 = 1 then !decide (σ.I 1202 m 0 = 2) && (!decide (σ.I 1202 m 0 = 1) && (!σ.B 1204 m 0 && (if σ.I 1218 m 0 = (-2) then !σ.B 1203 m 0 && !decide (σ.I 1202 m 0 = 0) else !σ.B 1205 m 0))) else false) else (if σ.I 1200 m 0 = 0 then !σ.B 1205 m 0 else if σ.I 1200 m 0 = 1 then (decide (σ.I 1218 m 0 = (-2)) == σ.B 1205 m 0) && (!σ.B 1205 m 0 || (!decide (σ.I 1202 m 0 = 0) && (!σ.B 1203 m 0 && σ.B 1105 k 0))) else true)
/-- fields of one kind (static or not) among the first i of class k -/
def jSlt (σ : Sg) (k : Nat) (st : Bool) (i : Nat) : Nat := fcount (fun j => decide (σ.I 1200 (33 * k + j) 0 = 0) && (σ.B 1203 (33 * k + j) 0 == st)) i 0
theorem fcount_le {p : Nat → Bool} : ∀ (n j : Nat), fcount p n j ≤ n := sorry
theorem fcount_cong {p q : Nat → Bool} : ∀ (n j : Nat), (∀ i, j ≤ i → i < j + n → p i = q i) → fcount p n j = fcount q n j := sorry
section SPX
variable {l : Launch} {G : Gl} {d : Nat} {σ : Sg}
theorem sp_X6_kindAt (hG : GOK G) {b n r t k : Nat} {B : Nat → Nat} (hd : 4 ≤ d) (hL : LRd σ b B n r) (hr : r ≤ 702) (ht : t < r) (h2 : (yTok B n t).1 = 2) (h603 : σ.R 1603 0 0 = some k) (hk : k < 194) (hW : WOK σ 1) {x : Int32} (hx : x = nI t) : CT l G yX6_kindAt (ws_ yX6_kindAt cX6_kindAt 3 (some (.object "LinkHouse$Kind"))) d [.ref (G.adr 6 0), .int x] σ (oJ G b (yTok B n) σ (jKd σ k (yTok B n) t) (fun c o s => ∃ v, o = .returned (some (rv G 1 v)) ∧ (∀ k, v = some k → k < cnt 1) ∧ (v = some c ∧ s = σ))) := sorry
theorem sp_X6_typeAt (hG : GOK G) {b n r t k : Nat} {B : Nat → Nat} (hd : 5 ≤ d) (hL : LRd σ b B n r) (hr : r ≤ 702) (ht : t < r) (h2 : tyS (yTok B n t).1) (h603 : σ.R 1603 0 0 = some k) (hk : k < 194) (hW : WOK σ 1) {x : Int32} (hx : x = nI t) : CT l G yX6_typeAt (ws_ yX6_typeAt cX6_typeAt 2 none) d [.ref (G.adr 6 0), .int x] σ (oJ G b (yTok B n) σ (jTy σ k (yTok B n) t) (fun _ o s => o = .returned none ∧ s = σ)) := sorry
theorem sp_X6_mayBe (hG : GOK G) {k m so : Nat} (hd : 1 ≤ d) (h603 : σ.R 1603 0 0 = some k) (hm : m < cnt 2) (hso : σ.I 1200 m 0 = nI so) (hso4 : so < 4) : CT l G yX6_mayBe (ws_ yX6_mayBe cX6_mayBe 3 (some .boolean)) d [.ref (G.adr 6 0), rv G 2 (some m)] σ (rZ (jMay σ k m) (fun s => s = σ)) := sorry
theorem sp_X6_slotOf (hG : GOK G) {k m w : Nat} (hd : 1 ≤ d) (h603 : σ.R 1603 0 0 = some k) (hm : m < cnt 2) (hw : w ≤ 33) {x : Int32} (hx : x = nI w) : CT l G yX6_slotOf (ws_ yX6_slotOf cX6_slotOf 5 (some .int)) d [.ref (G.adr 6 0), rv G 2 (some m), .int x] σ (rI (nI (jSlt σ k (σ.B 1203 m 0) w)) (fun s => s = σ)) := sorry
end SPX
