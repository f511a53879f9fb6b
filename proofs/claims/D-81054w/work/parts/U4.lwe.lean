/-! LinkHouse writes an E: the tree that is written; a field is asked, a method called. -/
theorem cdE_0 {τ : Sg} {k sz : Nat} {ix : Us → Int32} {b : Lb} {u : Unit} {x y : Tr} (h : b.1 = 0) : cdE τ k ix (.inner sz b u x y) = cdE τ k ix x ++ cdE τ k ix y := sorry
theorem cdE_1 {τ : Sg} {k sz : Nat} {ix : Us → Int32} {b : Lb} {u : Unit} {x y : Tr} (h : b.1 = 1) : cdE τ k ix (.inner sz b u x y) = [2, nI b.2.2.2.2.2.1] := sorry
theorem cdE_2 {τ : Sg} {k sz : Nat} {ix : Us → Int32} {b : Lb} {u : Unit} {x y : Tr} (h : b.1 = 2) : cdE τ k ix (.inner sz b u x y) = [2, 0] := sorry
theorem cdE_3 {τ : Sg} {k sz : Nat} {ix : Us → Int32} {b : Lb} {u : Unit} {x y : Tr} (h : b.1 = 3) : cdE τ k ix (.inner sz b u x y) = [3, 0] := sorry
theorem cdE_4 {τ : Sg} {k sz : Nat} {ix : Us → Int32} {b : Lb} {u : Unit} {x y : Tr} (h : b.1 = 4) : cdE τ k ix (.inner sz b u x y) = (if b.2.2.2.2.2.2.2.1 = 0 then [3, nI (b.2.2.2.2.2.2.2.2.2 - 1)] else (if τ.B 1203 (mB b) 0 = true then [] else [3, 0]) ++ gtC τ k ix b) := sorry
theorem cdE_6 {τ : Sg} {k sz : Nat} {ix : Us → Int32} {b : Lb} {u : Unit} {x y : Tr} (h : b.1 = 6) : cdE τ k ix (.inner sz b u x y) = gtC τ k ix b := sorry
theorem cdE_17 {τ : Sg} {k sz : Nat} {ix : Us → Int32} {b : Lb} {u : Unit} {x y : Tr} (h : b.1 = 17) : cdE τ k ix (.inner sz b u x y) = cdE τ k ix x ++ gtC τ k ix b := sorry
theorem cdE_5 {τ : Sg} {k sz : Nat} {ix : Us → Int32} {b : Lb} {u : Unit} {x y : Tr} (h : b.1 = 5) : cdE τ k ix (.inner sz b u x y) = (if τ.B 1203 (mB b) 0 = true then [] else [3, 0]) ++ (cdE τ k ix y ++ [17, ix (uL τ k (clS τ b) (τ.L 1100 (cB b) 0) (mB b))]) := sorry
theorem cdE_7 {τ : Sg} {k sz : Nat} {ix : Us → Int32} {b : Lb} {u : Unit} {x y : Tr} (h : b.1 = 7) : cdE τ k ix (.inner sz b u x y) = cdE τ k ix y ++ [17, ix (uL τ k (clS τ b) (τ.L 1100 (cB b) 0) (mB b))] := sorry
theorem cdE_8 {τ : Sg} {k sz : Nat} {ix : Us → Int32} {b : Lb} {u : Unit} {x y : Tr} (h : b.1 = 8 ∨ b.1 = 9) : cdE τ k ix (.inner sz b u x y) = [3, 0] ++ (cdE τ k ix y ++ [17, ix (uL τ k (clS τ b) (τ.L 1100 (cB b) 0) (mB b))]) := sorry
theorem cdE_18 {τ : Sg} {k sz : Nat} {ix : Us → Int32} {b : Lb} {u : Unit} {x y : Tr} (h : b.1 = 18) : cdE τ k ix (.inner sz b u x y) = cdE τ k ix x ++ (cdE τ k ix y ++ [17, ix (uL τ k (clS τ b) (τ.L 1100 (cB b) 0) (mB b))]) := sorry
theorem cdE_10 {τ : Sg} {k sz : Nat} {ix : Us → Int32} {b : Lb} {u : Unit} {x y : Tr} (h : b.1 = 10) : cdE τ k ix (.inner sz b u x y) = [18, ix (uC k 1 (τ.L 1100 (cB b) 0))] ++ (cdE τ k ix y ++ [19, ix (uM τ k (τ.L 1100 (cB b) 0) (mB b))]) := sorry
theorem cdE_11 {τ : Sg} {k sz : Nat} {ix : Us → Int32} {b : Lb} {u : Unit} {x y : Tr} (h : b.1 = 11) : cdE τ k ix (.inner sz b u x y) = cdE τ k ix x ++ [20, ix (uC k 13 (lN b.2.2.2.2.2.1))] := sorry
theorem cdE_19 {τ : Sg} {k sz : Nat} {ix : Us → Int32} {b : Lb} {u : Unit} {x y : Tr} (h : b.1 = 19) : cdE τ k ix (.inner sz b u x y) = cdE τ k ix x ++ [21, ix (uC k 14 (lN b.2.2.2.2.2.1))] := sorry
theorem cdE_20 {τ : Sg} {k sz : Nat} {ix : Us → Int32} {b : Lb} {u : Unit} {x y : Tr} (h : b.1 = 20) : cdE τ k ix (.inner sz b u x y) = cdE τ k ix x := sorry
theorem cdE_13 {τ : Sg} {k sz : Nat} {ix : Us → Int32} {b : Lb} {u : Unit} {x y : Tr} (h : b.1 = 13) : cdE τ k ix (.inner sz b u x y) = cdE τ k ix x ++ (cdE τ k ix y ++ [10, 0]) := sorry
theorem cdE_c {τ : Sg} {k sz : Nat} {ix : Us → Int32} {b : Lb} {u : Unit} {x y : Tr} (h : b.1 = 12 ∨ b.1 = 14 ∨ b.1 = 15 ∨ b.1 = 16) : cdE τ k ix (.inner sz b u x y) = cdE τ k ix x ++ (cdE τ k ix y ++ [if b.1 = 12 then 9 else if b.1 = 14 then 6 else if b.1 = 15 then 7 else 8, 0]) := sorry
theorem gtC_len {τ : Sg} {k : Nat} {ix : Us → Int32} {b : Lb} : (gtC τ k ix b).length = 2 := sorry
theorem LRd.fg {σ s : Sg} {b n r : Nat} {B : Nat → Nat} {p : Nat → Nat → Bool} (h : LRd σ b B n r) (hF : Fl p σ s) (hp : ∀ c i, (1500 < c ∧ c ≤ 1506) ∨ (2000 < c ∧ c ≤ 2004) → p c i = false) : LRd s b B n r := sorry
/-- the tree x, with what was found, at v -/
def LWt (σ : Sg) (T : Nat → Tk) (r : Nat) : Tr → Int32 → Prop
  | .leaf, v => v = -2
  | .inner _ b _ x y, v => ∃ n, v = nI n ∧ n < 1410 ∧
    ((b.1 = 0 ∧ LWt σ T r x v ∧ LWt σ T r y (σ.I 1514 0 n)) ∨
     (b.1 = 41 ∧ LWt σ T r x (σ.I 1512 0 n) ∧ LWt σ T r y (σ.I 1513 0 n)) ∨
     (¬ b.1 = 0 ∧ ¬ b.1 = 41 ∧ (σ.I 1509 0 n = nI b.1 ∧ b.1 < 100) ∧ AnN σ n b ∧ NmOK T r b ∧ σ.I 1510 0 n = nI b.2.1 ∧ (tw2 b.1 = true → σ.I 1512 0 n = nI b.2.2.2.1) ∧ (th2 b.1 = true → σ.I 1513 0 n = nI b.2.2.2.1) ∧ (11 ≤ b.1 → LWt σ T r x (σ.I 1511 0 n)) ∧ (twy b.1 = true → LWt σ T r y (σ.I 1512 0 n)) ∧ (thy b.1 = true → LWt σ T r y (σ.I 1513 0 n)) ∧ (b.1 = 32 ∨ b.1 = 33 → LWt σ T r y v)))
theorem LWt.fg {σ s : Sg} {T : Nat → Tk} {r : Nat} {p : Nat → Nat → Bool} (hF : Fl p σ s) (hp : ∀ c, (1508 < c ∧ c ≤ 1514) ∨ (1605 < c ∧ c ≤ 1609) → p c 0 = false) : ∀ (x : Tr) (v : Int32), LWt σ T r x v → LWt s T r x v := sorry
/-- what a label has that was judged -/
def okN (k : Nat) (b : Lb) : Prop := TyOK b.2.2.2.2.2.2.1 ∧ (b.1 = 5 → b.2.2.2.2.2.2.2.2.1 = k + 1) ∧ (b.1 = 5 ∨ b.1 = 6 ∨ b.1 = 7 ∨ b.1 = 8 ∨ b.1 = 9 ∨ b.1 = 10 ∨ b.1 = 17 ∨ b.1 = 18 → ¬ b.2.2.2.2.2.2.2.1 = 0) ∧ (¬ b.2.2.2.2.2.2.2.1 = 0 → ¬ b.2.2.2.2.2.2.2.2.1 = 0) ∧ b.2.2.2.2.2.2.2.2.2 ≤ 2000 ∧ (b.1 = 4 → ¬ b.2.2.2.2.2.2.1 = 2)
def okT (k : Nat) : Tr → Prop
  | .leaf => True
  | .inner _ b _ x y => (1 ≤ b.1 ∧ b.1 ≤ 20 → okN k b) ∧ (b.1 = 0 ∨ 11 ≤ b.1 → okT k x) ∧ (b.1 = 0 ∨ b.1 = 41 ∨ b.1 = 32 ∨ b.1 = 33 ∨ twy b.1 = true ∨ thy b.1 = true → okT k y)
/-- while an E of class k is written -/
def WX (τ σ : Sg) (b k n0 p : Nat) (U : List Us) (B : Nat → Nat) (n r : Nat) : Prop := WW τ σ 0 b k n0 p U ∧ LRd σ b B n r ∧ r ≤ 702
theorem RW.wx {τ σ s : Sg} {b k n0 p : Nat} {U R : List Us} {C : (Us → Int32) → List Int32} {B : Nat → Nat} {n r : Nat} (h : RW σ s 0 b k n0 p U R C) (hW : WX τ σ b k n0 p U B n r) : WX τ s b k n0 (p + (C fun _ => 0).length) (addL U R) B n r := sorry
theorem RW.wt {σ s : Sg} {b k n0 p : Nat} {U R : List Us} {C : (Us → Int32) → List Int32} {T : Nat → Tk} {r : Nat} {x : Tr} {v : Int32} (h : RW σ s 0 b k n0 p U R C) (hW : LWt σ T r x v) : LWt s T r x v := sorry
theorem om_p {m : Nat} (h : ¬ m = 0) : om m = some (m - 1) := sorry
theorem wF_cl {τ : Sg} {c : Nat} (hO : OkW τ) (h : wFind τ 1 (τ.L 1100 c 0) = some c) : c < 194 ∧ TyC (τ.L 1100 c 0) := sorry
section SPX
variable {l : Launch} {G : Gl} {d : Nat} {τ σ : Sg} {b k n0 p : Nat} {U : List Us}
theorem wr_get (hG : GOK G) {N : Nat} {bb : Lb} {v : Int32} (hd : 7 ≤ d) (hW : WW τ σ 0 b k n0 p U) (hv : v = nI N) (hN : N < 1410) (h7 : σ.R 1607 0 N = some (mB bb)) (h8 : σ.R 1608 0 N = some (cB bb)) (hc : wFind τ 1 (τ.L 1100 (cB bb) 0) = some (cB bb)) (hm : LivU τ (wKs τ 1) (mB bb)) (hL : (addU U (gtU τ k bb)).length ≤ 1000) (hp : p + 2 ≤ 6000) : CT l G yX6_writeGet (ws_ yX6_writeGet cX6_writeGet 3 none) d [.ref (G.adr 6 0), .int v] σ (rV (fun s => RW σ s 0 b k n0 p U [gtU τ k bb] (fun ix => gtC τ k ix bb))) := sorry
theorem wr_call (hG : GOK G) {N v : Nat} {bb : Lb} {x1 x2 : Int32} (hd : 7 ≤ d) (hW : WW τ σ 0 b k n0 p U) (e1 : x1 = nI v) (e2 : x2 = nI N) (hN : N < 1410) (h7 : σ.R 1607 0 N = some (mB bb)) (h8 : σ.R 1608 0 N = some (cB bb)) (hc : wFind τ 1 (τ.L 1100 (cB bb) 0) = some (cB bb)) (hm : LivU τ (wKs τ 1) (mB bb)) (h1 : τ.I 1200 (mB bb) 0 = 1) (hv : 7 ≤ v ∧ v ≤ 12) (hL : (addU U (uL τ k v (τ.L 1100 (cB bb) 0) (mB bb))).length ≤ 1000) (hp : p + 2 ≤ 6000) : CT l G yX6_writeCall (ws_ yX6_writeCall cX6_writeCall 3 none) d [.ref (G.adr 6 0), .int x1, .int x2] σ (rV (fun s => RW σ s 0 b k n0 p U [uL τ k v (τ.L 1100 (cB bb) 0) (mB bb)] (fun ix => [17, ix (uL τ k v (τ.L 1100 (cB bb) 0) (mB bb))]))) := sorry
theorem sp_X6_callOf (hG : GOK G) {c : Nat} (hd : 1 ≤ d) (hc : c < 194) : CT l G yX6_callOf (ws_ yX6_callOf cX6_callOf 2 (some .int)) d [.ref (G.adr 6 0), rv G 1 (some c)] σ (rI (nI (if σ.B 1102 c 0 = true then 8 else 7)) (fun s => s = σ)) := sorry
end SPX
