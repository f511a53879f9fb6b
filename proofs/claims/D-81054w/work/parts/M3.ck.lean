/-! THE JUDGE of an E in plain terms. -/
/-- a label with what was found: type; member + 1 (0: none); class + 1, or the place among the locals; slot + 1 (0: none) -/
abbrev an (b : Lb) (ty : Int64) (me cl sl : Nat) : Lb := (b.1, b.2.1, b.2.2.1, b.2.2.2.1, b.2.2.2.2.1, b.2.2.2.2.2.1, ty, me, cl, sl)
/-- the type of a judged E -/
def tyO (x : Tr) : Int64 := match x with
  | .leaf => 0
  | .inner _ b _ _ _ => b.2.2.2.2.2.2.1
/-- the types of a row -/
def tyL : Tr → List Int64
  | .leaf => []
  | .inner _ _ _ x y => tyO x :: tyL y
/-- the kind of a tree -/
def kdO (x : Tr) : Nat := match x with
  | .leaf => 0
  | .inner _ b _ _ _ => b.1
/-- a local: its place, type, slot -/
def lcF (nm : Int64) : List (Int64 × Int64 × Nat) → Nat → Option (Nat × Int64 × Nat)
  | [], _ => none
  | c :: cs, i => if c.1 = nm then some (i, c.2.1, c.2.2) else lcF nm cs (i + 1)
/-- a class that is named -/
def ckK (σ : Sg) (k : Nat) (nm : Int64) (t : Nat) : PR Nat := match wFind σ 1 nm with
  | none => .error (7, t)
  | some c => if kOpn σ c k = true then .ok c else .error (7, t)
/-- a field of x -/
noncomputable def ckF (σ : Sg) (k : Nat) (xo : Option Nat) (nm : Int64) (t : Nat) : PR Nat := match xo with
  | none => .error (11, t)
  | some x => match wFld σ 1 x nm 2 with
    | none => .error (11, t)
    | some f => if mLts σ 1 k (mOf σ f) f x (wNst σ 1 k) (wNst σ 1 (mOf σ f)) = true then .ok f else .error (11, t)
/-- a method of x -/
noncomputable def ckC (σ : Sg) (k : Nat) (xo : Option Nat) (nm : Int64) (ts : List Int64) (t : Nat) : PR Nat := match jMtO σ k xo nm ts with
  | none => .error (12, t)
  | some m => .ok m
/-- a method above, by super -/
noncomputable def ckU (σ : Sg) (k : Nat) (st : Bool) (xo : Option Nat) (nm : Int64) (ts : List Int64) (t t2 : Nat) : PR Nat := bnd (ckC σ k xo nm ts t) fun m => bnd (ckP (!σ.B 1205 m 0) 12 t) fun _ => bnd (ckP (!st) 14 t2) fun _ => bnd (ckP (!σ.B 1203 m 0) 14 t) fun _ => .ok m
def isOb (t : Int64) : Bool := !decide (t = 0) && !decide (t = 1)
/-- an object's class is asked for -/
def ckO (t : Int64) (p : Nat) : PR Unit := ckP (isOb t && !decide (t = 2)) 13 p
def oK (xo : Option Nat) : Nat := match xo with
  | none => 0
  | some x => x + 1
/-- the class that is named first -/
def ckR (σ : Sg) (k : Nat) (b : Lb) : PR Unit := if b.1 = 6 ∨ b.1 = 7 ∨ b.1 = 8 then bnd (ckK σ k (lN b.2.2.2.2.2.1) b.2.1) fun _ => .ok () else if b.1 = 10 ∨ b.1 = 11 then bnd (ckK σ k (lN b.2.2.2.2.2.1) b.2.2.2.1) fun _ => .ok () else .ok ()
/-- one node, when its parts are judged -/
noncomputable def ckN (σ : Sg) (k : Nat) (st : Bool) (Lc : List (Int64 × Int64 × Nat)) (b : Lb) (x y : Tr) : PR Lb :=
  if b.1 = 1 then .ok (an b 1 0 0 0)
  else if b.1 = 2 then .ok (an b 2 0 0 0)
  else if b.1 = 3 then bnd (ckP (!st) 14 b.2.1) fun _ => .ok (an b (σ.L 1100 k 0) 0 0 0)
  else if b.1 = 4 then (match lcF (lN b.2.2.2.2.1) Lc 0 with
    | some c => .ok (an b c.2.1 0 c.1 (c.2.2 + 1))
    | none => bnd (ckF σ k (some k) (lN b.2.2.2.2.1) b.2.2.1) fun f => bnd (ckP (!(st && !σ.B 1203 f 0)) 14 b.2.2.1) fun _ => .ok (an b (σ.L 1207 f 0) (f + 1) (k + 1) 0))
  else if b.1 = 5 then bnd (ckC σ k (some k) (lN b.2.2.2.2.1) (tyL y) b.2.2.1) fun m => bnd (ckP (!(st && !σ.B 1203 m 0)) 14 b.2.2.1) fun _ => .ok (an b (σ.L 1207 m 0) (m + 1) (k + 1) 0)
  else if b.1 = 6 then bnd (ckF σ k (wFind σ 1 (lN b.2.2.2.2.2.1)) (lN b.2.2.2.2.1) b.2.2.1) fun f => bnd (ckP (σ.B 1203 f 0) 14 b.2.2.1) fun _ => .ok (an b (σ.L 1207 f 0) (f + 1) (oK (wFind σ 1 (lN b.2.2.2.2.2.1))) 0)
  else if b.1 = 7 then bnd (ckC σ k (wFind σ 1 (lN b.2.2.2.2.2.1)) (lN b.2.2.2.2.1) (tyL y) b.2.2.1) fun m => bnd (ckP (σ.B 1203 m 0) 14 b.2.2.1) fun _ => .ok (an b (σ.L 1207 m 0) (m + 1) (oK (wFind σ 1 (lN b.2.2.2.2.2.1))) 0)
  else if b.1 = 8 then bnd (ckU σ k st (if kFac σ k (lN b.2.2.2.2.2.1) = true then wFind σ 1 (lN b.2.2.2.2.2.1) else none) (lN b.2.2.2.2.1) (tyL y) b.2.2.1 b.2.2.2.1) fun m => .ok (an b (σ.L 1207 m 0) (m + 1) (oK (wFind σ 1 (lN b.2.2.2.2.2.1))) 0)
  else if b.1 = 9 then bnd (ckU σ k st (wPar σ 1 k) (lN b.2.2.2.2.1) (tyL y) b.2.2.1 b.2.1) fun m => .ok (an b (σ.L 1207 m 0) (m + 1) (oK (wPar σ 1 k)) 0)
  else if b.1 = 10 then (match wFind σ 1 (lN b.2.2.2.2.2.1) with
    | none => .error (0, 0)
    | some c => match (if σ.B 1102 c 0 = true ∨ σ.B 1105 c 0 = true then none else jMkr σ k c (tyL y)) with
      | none => .error (18, b.2.2.2.1)
      | some m => .ok (an b (σ.L 1100 c 0) (m + 1) (c + 1) 0))
  else if b.1 = 11 then bnd (ckP (isOb (tyO x)) 13 (trT x)) fun _ => .ok (an b (lN b.2.2.2.2.2.1) 0 0 0)
  else if b.1 = 13 then bnd (ckP (!decide (tyO x = 0)) 13 (trT x)) fun _ => bnd (ckP (!decide (tyO y = 0) && (decide (tyO x = 1) == decide (tyO y = 1))) 13 (trT y)) fun _ => .ok (an b 1 0 0 0)
  else if b.1 = 17 then bnd (ckO (tyO x) (trT x)) fun _ => bnd (ckF σ k (wFind σ 1 (tyO x)) (lN b.2.2.2.2.1) b.2.2.1) fun f => bnd (ckP (!σ.B 1203 f 0) 14 b.2.2.1) fun _ => .ok (an b (σ.L 1207 f 0) (f + 1) (oK (wFind σ 1 (tyO x))) 0)
  else if b.1 = 18 then bnd (ckO (tyO x) (trT x)) fun _ => bnd (ckC σ k (wFind σ 1 (tyO x)) (lN b.2.2.2.2.1) (tyL y) b.2.2.1) fun m => bnd (ckP (!σ.B 1203 m 0) 14 b.2.2.1) fun _ => .ok (an b (σ.L 1207 m 0) (m + 1) (oK (wFind σ 1 (tyO x))) 0)
  else if b.1 = 19 then bnd (ckK σ k (lN b.2.2.2.2.2.1) b.2.2.2.1) fun _ => bnd (ckP (isOb (tyO x)) 13 (trT x)) fun _ => .ok (an b 1 0 0 0)
  else if b.1 = 20 then .ok (an b (tyO x) 0 0 0)
  else bnd (ckP (wFits σ 1 (tyO x) 1) 13 (trT x)) fun _ => bnd (ckP (wFits σ 1 (tyO y) 1) 13 (trT y)) fun _ => .ok (an b 1 0 0 0)
/-- an E, or a row of them -/
noncomputable def ckE (σ : Sg) (k : Nat) (st : Bool) (Lc : List (Int64 × Int64 × Nat)) : Tr → PR Tr
  | .leaf => .ok .leaf
  | .inner sz b u x y => if b.1 = 0 then bnd (ckE σ k st Lc x) fun x' => bnd (ckE σ k st Lc y) fun y' => .ok (.inner sz b u x' y')
    else bnd (ckR σ k b) fun _ => bnd (if 11 ≤ b.1 then ckE σ k st Lc x else .ok x) fun x' => bnd (if (twy b.1 || thy b.1) = true then ckE σ k st Lc y else .ok y) fun y' => bnd (ckN σ k st Lc b x' y') fun b' => .ok (.inner sz b' u x' y')
/-! what was found, in LinkHouse's tables -/
def om (n : Nat) : Option Nat := if n = 0 then none else some (n - 1)
abbrev tkA (σ : Sg) (j : Nat) : Nat := (σ.I 1510 0 j).toNatClampNeg
/-- at node n stands what label b says -/
def AnN (σ : Sg) (n : Nat) (b : Lb) : Prop := (b.1 ≤ 20 → σ.L 1606 0 n = b.2.2.2.2.2.2.1) ∧ (b.1 ≤ 20 ∨ b.1 = 38 → σ.R 1607 0 n = om b.2.2.2.2.2.2.2.1) ∧ (b.1 ≤ 20 → ¬ b.2.2.2.2.2.2.2.1 = 0 → σ.R 1608 0 n = om b.2.2.2.2.2.2.2.2.1) ∧ (b.1 = 4 ∨ b.1 = 6 ∨ b.1 = 17 ∨ b.1 = 31 ∨ b.1 = 36 → σ.I 1609 0 n = (if b.2.2.2.2.2.2.2.2.2 = 0 then -2 else nI (b.2.2.2.2.2.2.2.2.2 - 1)))
/-- what was found of a tree; its tokens are from a on, below e -/
def LAn (σ : Sg) (a e : Nat) : Tr → Nat → Nat → Int32 → Prop
  | .leaf, _, _, v => v = -2
  | .inner _ b _ x y, lo, hi, v => ∃ n, v = nI n ∧ n < 1410 ∧
    ((b.1 = 0 ∧ LAn σ a e x lo hi v ∧ LAn σ a e y lo hi (σ.I 1514 0 n)) ∨
     (b.1 = 41 ∧ LAn σ a e x lo hi (σ.I 1512 0 n) ∧ LAn σ a e y lo hi (σ.I 1513 0 n)) ∨
     (¬ b.1 = 0 ∧ ¬ b.1 = 41 ∧ lo ≤ n ∧ n < hi ∧ a ≤ tkA σ n ∧ tkA σ n < e ∧ σ.I 1509 0 n = nI b.1 ∧ AnN σ n b ∧ (11 ≤ b.1 → LAn σ a e x lo hi (σ.I 1511 0 n)) ∧ (twy b.1 = true → LAn σ a e y lo hi (σ.I 1512 0 n)) ∧ (thy b.1 = true → LAn σ a e y lo hi (σ.I 1513 0 n)) ∧ (b.1 = 32 ∨ b.1 = 33 → LAn σ a e y lo hi v)))
/-- the tree's own columns -/
def TrE (σ s : Sg) : Prop := ∀ c j, 1508 < c → c ≤ 1514 → s.I c 0 j = σ.I c 0 j
/-- what was found at j is the same -/
def AnE (σ s : Sg) (j : Nat) : Prop := s.L 1606 0 j = σ.L 1606 0 j ∧ s.R 1607 0 j = σ.R 1607 0 j ∧ s.R 1608 0 j = σ.R 1608 0 j ∧ s.I 1609 0 j = σ.I 1609 0 j
theorem LAn.to {σ s : Sg} {a e a' e' : Nat} (ha : a' ≤ a) (he : e ≤ e') (hT : TrE σ s) : ∀ (x : Tr) (lo hi lo' hi' : Nat) (v : Int32), lo' ≤ lo → hi ≤ hi' → (∀ j, lo ≤ j → j < hi → a ≤ tkA σ j → tkA σ j < e → AnE σ s j) → LAn σ a e x lo hi v → LAn s a' e' x lo' hi' v := sorry
/-- a row -/
def isRw : Tr → Prop
  | .leaf => True
  | .inner _ b _ x y => b.1 = 0 ∧ (1 ≤ kdO x ∧ kdO x ≤ 20) ∧ isRw y
/-- the types of a row that was judged -/
theorem LAn_row {σ : Sg} {a e lo hi : Nat} : ∀ (y : Tr) (v : Int32), isRw y → LAn σ a e y lo hi v → LAr σ (tyL y) v := sorry
theorem ckN_1 {σ : Sg} {k : Nat} {st : Bool} {Lc : List (Int64 × Int64 × Nat)} {b : Lb} {x y : Tr} (h : b.1 = 1) : ckN σ k st Lc b x y = (.ok (an b 1 0 0 0)) := sorry
theorem ckN_2 {σ : Sg} {k : Nat} {st : Bool} {Lc : List (Int64 × Int64 × Nat)} {b : Lb} {x y : Tr} (h : b.1 = 2) : ckN σ k st Lc b x y = (.ok (an b 2 0 0 0)) := sorry
theorem ckN_3 {σ : Sg} {k : Nat} {st : Bool} {Lc : List (Int64 × Int64 × Nat)} {b : Lb} {x y : Tr} (h : b.1 = 3) : ckN σ k st Lc b x y = (bnd (ckP (!st) 14 b.2.1) fun _ => .ok (an b (σ.L 1100 k 0) 0 0 0)) := sorry
theorem ckN_4 {σ : Sg} {k : Nat} {st : Bool} {Lc : List (Int64 × Int64 × Nat)} {b : Lb} {x y : Tr} (h : b.1 = 4) : ckN σ k st Lc b x y = ((match lcF (lN b.2.2.2.2.1) Lc 0 with
    | some c => .ok (an b c.2.1 0 c.1 (c.2.2 + 1))
    | none => bnd (ckF σ k (some k) (lN b.2.2.2.2.1) b.2.2.1) fun f => bnd (ckP (!(st && !σ.B 1203 f 0)) 14 b.2.2.1) fun _ => .ok (an b (σ.L 1207 f 0) (f + 1) (k + 1) 0))) := sorry
theorem ckN_5 {σ : Sg} {k : Nat} {st : Bool} {Lc : List (Int64 × Int64 × Nat)} {b : Lb} {x y : Tr} (h : b.1 = 5) : ckN σ k st Lc b x y = (bnd (ckC σ k (some k) (lN b.2.2.2.2.1) (tyL y) b.2.2.1) fun m => bnd (ckP (!(st && !σ.B 1203 m 0)) 14 b.2.2.1) fun _ => .ok (an b (σ.L 1207 m 0) (m + 1) (k + 1) 0)) := sorry
theorem ckN_6 {σ : Sg} {k : Nat} {st : Bool} {Lc : List (Int64 × Int64 × Nat)} {b : Lb} {x y : Tr} (h : b.1 = 6) : ckN σ k st Lc b x y = (bnd (ckF σ k (wFind σ 1 (lN b.2.2.2.2.2.1)) (lN b.2.2.2.2.1) b.2.2.1) fun f => bnd (ckP (σ.B 1203 f 0) 14 b.2.2.1) fun _ => .ok (an b (σ.L 1207 f 0) (f + 1) (oK (wFind σ 1 (lN b.2.2.2.2.2.1))) 0)) := sorry
theorem ckN_7 {σ : Sg} {k : Nat} {st : Bool} {Lc : List (Int64 × Int64 × Nat)} {b : Lb} {x y : Tr} (h : b.1 = 7) : ckN σ k st Lc b x y = (bnd (ckC σ k (wFind σ 1 (lN b.2.2.2.2.2.1)) (lN b.2.2.2.2.1) (tyL y) b.2.2.1) fun m => bnd (ckP (σ.B 1203 m 0) 14 b.2.2.1) fun _ => .ok (an b (σ.L 1207 m 0) (m + 1) (oK (wFind σ 1 (lN b.2.2.2.2.2.1))) 0)) := sorry
theorem ckN_8 {σ : Sg} {k : Nat} {st : Bool} {Lc : List (Int64 × Int64 × Nat)} {b : Lb} {x y : Tr} (h : b.1 = 8) : ckN σ k st Lc b x y = (bnd (ckU σ k st (if kFac σ k (lN b.2.2.2.2.2.1) = true then wFind σ 1 (lN b.2.2.2.2.2.1) else none) (lN b.2.2.2.2.1) (tyL y) b.2.2.1 b.2.2.2.1) fun m => .ok (an b (σ.L 1207 m 0) (m + 1) (oK (wFind σ 1 (lN b.2.2.2.2.2.1))) 0)) := sorry
theorem ckN_9 {σ : Sg} {k : Nat} {st : Bool} {Lc : List (Int64 × Int64 × Nat)} {b : Lb} {x y : Tr} (h : b.1 = 9) : ckN σ k st Lc b x y = (bnd (ckU σ k st (wPar σ 1 k) (lN b.2.2.2.2.1) (tyL y) b.2.2.1 b.2.1) fun m => .ok (an b (σ.L 1207 m 0) (m + 1) (oK (wPar σ 1 k)) 0)) := sorry
theorem ckN_10 {σ : Sg} {k : Nat} {st : Bool} {Lc : List (Int64 × Int64 × Nat)} {b : Lb} {x y : Tr} (h : b.1 = 10) : ckN σ k st Lc b x y = ((match wFind σ 1 (lN b.2.2.2.2.2.1) with
    | none => .error (0, 0)
    | some c => match (if σ.B 1102 c 0 = true ∨ σ.B 1105 c 0 = true then none else jMkr σ k c (tyL y)) with
      | none => .error (18, b.2.2.2.1)
      | some m => .ok (an b (σ.L 1100 c 0) (m + 1) (c + 1) 0))) := sorry
theorem ckN_11 {σ : Sg} {k : Nat} {st : Bool} {Lc : List (Int64 × Int64 × Nat)} {b : Lb} {x y : Tr} (h : b.1 = 11) : ckN σ k st Lc b x y = (bnd (ckP (isOb (tyO x)) 13 (trT x)) fun _ => .ok (an b (lN b.2.2.2.2.2.1) 0 0 0)) := sorry
theorem ckN_13 {σ : Sg} {k : Nat} {st : Bool} {Lc : List (Int64 × Int64 × Nat)} {b : Lb} {x y : Tr} (h : b.1 = 13) : ckN σ k st Lc b x y = (bnd (ckP (!decide (tyO x = 0)) 13 (trT x)) fun _ => bnd (ckP (!decide (tyO y = 0) && (decide (tyO x = 1) == decide (tyO y = 1))) 13 (trT y)) fun _ => .ok (an b 1 0 0 0)) := sorry
theorem ckN_17 {σ : Sg} {k : Nat} {st : Bool} {Lc : List (Int64 × Int64 × Nat)} {b : Lb} {x y : Tr} (h : b.1 = 17) : ckN σ k st Lc b x y = (bnd (ckO (tyO x) (trT x)) fun _ => bnd (ckF σ k (wFind σ 1 (tyO x)) (lN b.2.2.2.2.1) b.2.2.1) fun f => bnd (ckP (!σ.B 1203 f 0) 14 b.2.2.1) fun _ => .ok (an b (σ.L 1207 f 0) (f + 1) (oK (wFind σ 1 (tyO x))) 0)) := sorry
theorem ckN_18 {σ : Sg} {k : Nat} {st : Bool} {Lc : List (Int64 × Int64 × Nat)} {b : Lb} {x y : Tr} (h : b.1 = 18) : ckN σ k st Lc b x y = (bnd (ckO (tyO x) (trT x)) fun _ => bnd (ckC σ k (wFind σ 1 (tyO x)) (lN b.2.2.2.2.1) (tyL y) b.2.2.1) fun m => bnd (ckP (!σ.B 1203 m 0) 14 b.2.2.1) fun _ => .ok (an b (σ.L 1207 m 0) (m + 1) (oK (wFind σ 1 (tyO x))) 0)) := sorry
theorem ckN_19 {σ : Sg} {k : Nat} {st : Bool} {Lc : List (Int64 × Int64 × Nat)} {b : Lb} {x y : Tr} (h : b.1 = 19) : ckN σ k st Lc b x y = (bnd (ckK σ k (lN b.2.2.2.2.2.1) b.2.2.2.1) fun _ => bnd (ckP (isOb (tyO x)) 13 (trT x)) fun _ => .ok (an b 1 0 0 0)) := sorry
theorem ckN_20 {σ : Sg} {k : Nat} {st : Bool} {Lc : List (Int64 × Int64 × Nat)} {b : Lb} {x y : Tr} (h : b.1 = 20) : ckN σ k st Lc b x y = (.ok (an b (tyO x) 0 0 0)) := sorry
theorem ckN_c {σ : Sg} {k : Nat} {st : Bool} {Lc : List (Int64 × Int64 × Nat)} {b : Lb} {x y : Tr} (h : b.1 = 12 ∨ b.1 = 14 ∨ b.1 = 15 ∨ b.1 = 16) : ckN σ k st Lc b x y = (bnd (ckP (wFits σ 1 (tyO x) 1) 13 (trT x)) fun _ => bnd (ckP (wFits σ 1 (tyO y) 1) 13 (trT y)) fun _ => .ok (an b 1 0 0 0)) := sorry
theorem ckN_an {σ : Sg} {k : Nat} {st : Bool} {Lc : List (Int64 × Int64 × Nat)} {b b' : Lb} {x y : Tr} (hk : 1 ≤ b.1 ∧ b.1 ≤ 20) (h : ckN σ k st Lc b x y = .ok b') : ∃ ty me cl sl, b' = an b ty me cl sl := sorry
theorem ckE_k {σ : Sg} {k : Nat} {st : Bool} {Lc : List (Int64 × Int64 × Nat)} {x x' : Tr} (hk : kdO x ≤ 20) (h : ckE σ k st Lc x = .ok x') : kdO x' = kdO x ∧ trT x' = trT x := sorry
theorem ckE_rw {σ : Sg} {k : Nat} {st : Bool} {Lc : List (Int64 × Int64 × Nat)} : ∀ (y y' : Tr), isRw y → ckE σ k st Lc y = .ok y' → isRw y' := sorry
theorem wt_kd {x : Tr} {w a e : Nat} (h : wt x 0 w a e) : 1 ≤ kdO x ∧ kdO x ≤ 20 := sorry
theorem wt_rw : ∀ (y : Tr) {w a e : Nat}, wt y 1 w a e → isRw y := sorry
