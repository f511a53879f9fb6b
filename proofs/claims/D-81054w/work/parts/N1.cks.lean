/-! THE JUDGE of an S in plain terms. -/
abbrev Lcs : Type := List (Int64 × Int64 × Nat)
/-- a name that is new -/
def ckW (Lc : Lcs) (nm : Int64) (t : Nat) : PR Unit := ckP (!Lc.any (fun c => decide (c.1 = nm))) 16 t
def ckTy (σ : Sg) (k cn t : Nat) : PR Unit := if cn = 1 then .ok () else bnd (ckK σ k (lN cn) t) fun _ => .ok ()
/-- may be put to: x is judged, in a member of sort ms of class k -/
def ckPt (σ : Sg) (k : Nat) (ms : Int32) (x : Tr) : Bool := match x with
  | .leaf => false
  | .inner _ b _ _ _ => (b.1 == 4 || (b.1 == 17 || b.1 == 6)) && (!decide (b.2.2.2.2.2.2.2.2.2 = 0) || (!σ.B 1204 (b.2.2.2.2.2.2.2.1 - 1) 0 || (decide (σ.R 1222 (b.2.2.2.2.2.2.2.1 - 1) 0 = some k) && (if σ.B 1203 (b.2.2.2.2.2.2.2.1 - 1) 0 = true then decide (ms = 3) else decide (ms = 2)))))
def kCl (k : Nat) : Bool := k == 5 || (k == 7 || (k == 18 || (k == 9 || (k == 8 || k == 10))))
/-- the maker above that is meant -/
noncomputable def jMkO (σ : Sg) (k : Nat) (xo : Option Nat) (ts : List Int64) : Option Nat := match xo with
  | none => none
  | some x => jMkr σ k x ts
def isLf (x : Tr) : Bool := match x with
  | .leaf => true
  | _ => false
/-- an S in a member of sort ms and type mt; f: 2 the body of the member, 1 its first S; the locals, the slots that are taken -/
noncomputable def ckS (σ : Sg) (k : Nat) (st : Bool) (ms : Int32) (mt : Int64) : Tr → Nat → Lcs → Nat → PR (Tr × Lcs × Nat)
  | .leaf, _, Lc, sn => .ok (.leaf, Lc, sn)
  | .inner sz b u x y, f, Lc, sn =>
    if b.1 = 0 then bnd (ckS σ k st ms mt x (if f = 2 then 1 else 0) Lc sn) fun p => bnd (ckS σ k st ms mt y 0 p.2.1 p.2.2) fun q => .ok (.inner sz b u p.1 q.1, q.2.1, q.2.2)
    else if b.1 = 41 then bnd (ckS σ k st ms mt x 0 Lc sn) fun p => bnd (ckS σ k st ms mt y 0 Lc p.2.2) fun q => .ok (.inner sz b u p.1 q.1, Lc, q.2.2)
    else if b.1 = 30 then bnd (ckS σ k st ms mt x (if f = 2 then 2 else 0) Lc sn) fun p => .ok (.inner sz b u p.1 y, Lc, p.2.2)
    else if b.1 = 31 then bnd (ckTy σ k b.2.2.2.2.2.1 b.2.2.2.1) fun _ => bnd (ckE σ k st Lc x) fun x' => bnd (ckP (wFits σ 1 (tyO x') (lN b.2.2.2.2.2.1)) 13 (trT x)) fun _ => bnd (ckW Lc (lN b.2.2.2.2.1) b.2.2.1) fun _ => .ok (.inner sz (an b 0 0 Lc.length (sn + 1)) u x' y, Lc ++ [(lN b.2.2.2.2.1, lN b.2.2.2.2.2.1, sn)], sn + 1)
    else if b.1 = 32 ∨ b.1 = 33 then bnd (ckE σ k st Lc x) fun x' => bnd (ckP (wFits σ 1 (tyO x') 1) 13 (trT x)) fun _ => bnd (ckS σ k st ms mt y 0 Lc sn) fun q => .ok (.inner sz b u x' q.1, Lc, q.2.2)
    else if b.1 = 34 then bnd (ckE σ k st Lc x) fun x' => bnd (ckP (!(decide (ms = 3) || ((decide (ms = 1) && !decide (mt = 0)) == isLf x))) 17 b.2.1) fun _ => bnd (ckP (isLf x || wFits σ 1 (tyO x') mt) 13 (trT x)) fun _ => .ok (.inner sz b u x' y, Lc, sn)
    else if b.1 = 35 then bnd (ckE σ k st Lc x) fun x' => bnd (ckP (wFits σ 1 (tyO x') 6959884) 13 (trT x)) fun _ => .ok (.inner sz b u x' y, Lc, sn)
    else if b.1 = 36 then bnd (ckS σ k st ms mt x 0 Lc sn) fun p => bnd (ckK σ k (lN b.2.2.2.2.2.1) b.2.2.2.1) fun _ => bnd (ckP (wFits σ 1 (lN b.2.2.2.2.2.1) 6959884) 13 b.2.2.2.1) fun _ => bnd (ckW p.2.1 (lN b.2.2.2.2.1) b.2.2.1) fun _ => bnd (ckS σ k st ms mt y 0 (p.2.1 ++ [(lN b.2.2.2.2.1, lN b.2.2.2.2.2.1, p.2.2)]) (p.2.2 + 1)) fun q => .ok (.inner sz (an b 0 0 p.2.1.length (p.2.2 + 1)) u p.1 q.1, Lc, q.2.2)
    else if b.1 = 37 then bnd (ckE σ k st Lc x) fun x' => bnd (ckP (wFits σ 1 (tyO x') 1) 13 (trT x)) fun _ => .ok (.inner sz b u x' y, Lc, sn)
    else if b.1 = 38 then bnd (ckE σ k st Lc x) fun x' => (match (if ms = 2 ∧ f = 1 then jMkO σ k (wPar σ 1 k) (tyL x') else none) with
      | none => .error (18, b.2.1)
      | some m => .ok (.inner sz (an b 0 (m + 1) 0 0) u x' y, Lc, sn))
    else if b.1 = 39 then bnd (ckE σ k st Lc x) fun x' => bnd (ckP (kCl (kdO x)) 19 (trT x)) fun _ => .ok (.inner sz b u x' y, Lc, sn)
    else bnd (ckE σ k st Lc x) fun x' => bnd (ckE σ k st Lc y) fun y' => bnd (ckP (ckPt σ k ms x') 15 (trT x)) fun _ => bnd (ckP (wFits σ 1 (tyO y') (tyO x')) 13 (trT y)) fun _ => .ok (.inner sz b u x' y', Lc, sn)
/-- an S's end can be come to -/
def ckD : Tr → Bool
  | .leaf => true
  | .inner _ b _ x y => if b.1 = 0 then ckD x && ckD y else if b.1 = 41 then isLf y || (ckD x || ckD y) else if b.1 = 30 then ckD x else if b.1 = 32 then ckD y else if b.1 = 34 ∨ b.1 = 35 then false else if b.1 = 36 then ckD x || ckD y else true
theorem ckS_0 {σ : Sg} {k sz f sn : Nat} {st : Bool} {ms : Int32} {mt : Int64} {b : Lb} {u : Unit} {x y : Tr} {Lc : Lcs} (h : b.1 = 0) : ckS σ k st ms mt (.inner sz b u x y) f Lc sn = (bnd (ckS σ k st ms mt x (if f = 2 then 1 else 0) Lc sn) fun p => bnd (ckS σ k st ms mt y 0 p.2.1 p.2.2) fun q => .ok (.inner sz b u p.1 q.1, q.2.1, q.2.2)) := sorry
theorem ckS_41 {σ : Sg} {k sz f sn : Nat} {st : Bool} {ms : Int32} {mt : Int64} {b : Lb} {u : Unit} {x y : Tr} {Lc : Lcs} (h : b.1 = 41) : ckS σ k st ms mt (.inner sz b u x y) f Lc sn = (bnd (ckS σ k st ms mt x 0 Lc sn) fun p => bnd (ckS σ k st ms mt y 0 Lc p.2.2) fun q => .ok (.inner sz b u p.1 q.1, Lc, q.2.2)) := sorry
theorem ckS_30 {σ : Sg} {k sz f sn : Nat} {st : Bool} {ms : Int32} {mt : Int64} {b : Lb} {u : Unit} {x y : Tr} {Lc : Lcs} (h : b.1 = 30) : ckS σ k st ms mt (.inner sz b u x y) f Lc sn = (bnd (ckS σ k st ms mt x (if f = 2 then 2 else 0) Lc sn) fun p => .ok (.inner sz b u p.1 y, Lc, p.2.2)) := sorry
theorem ckS_31 {σ : Sg} {k sz f sn : Nat} {st : Bool} {ms : Int32} {mt : Int64} {b : Lb} {u : Unit} {x y : Tr} {Lc : Lcs} (h : b.1 = 31) : ckS σ k st ms mt (.inner sz b u x y) f Lc sn = (bnd (ckTy σ k b.2.2.2.2.2.1 b.2.2.2.1) fun _ => bnd (ckE σ k st Lc x) fun x' => bnd (ckP (wFits σ 1 (tyO x') (lN b.2.2.2.2.2.1)) 13 (trT x)) fun _ => bnd (ckW Lc (lN b.2.2.2.2.1) b.2.2.1) fun _ => .ok (.inner sz (an b 0 0 Lc.length (sn + 1)) u x' y, Lc ++ [(lN b.2.2.2.2.1, lN b.2.2.2.2.2.1, sn)], sn + 1)) := sorry
theorem ckS_32 {σ : Sg} {k sz f sn : Nat} {st : Bool} {ms : Int32} {mt : Int64} {b : Lb} {u : Unit} {x y : Tr} {Lc : Lcs} (h : b.1 = 32 ∨ b.1 = 33) : ckS σ k st ms mt (.inner sz b u x y) f Lc sn = (bnd (ckE σ k st Lc x) fun x' => bnd (ckP (wFits σ 1 (tyO x') 1) 13 (trT x)) fun _ => bnd (ckS σ k st ms mt y 0 Lc sn) fun q => .ok (.inner sz b u x' q.1, Lc, q.2.2)) := sorry
theorem ckS_34 {σ : Sg} {k sz f sn : Nat} {st : Bool} {ms : Int32} {mt : Int64} {b : Lb} {u : Unit} {x y : Tr} {Lc : Lcs} (h : b.1 = 34) : ckS σ k st ms mt (.inner sz b u x y) f Lc sn = (bnd (ckE σ k st Lc x) fun x' => bnd (ckP (!(decide (ms = 3) || ((decide (ms = 1) && !decide (mt = 0)) == isLf x))) 17 b.2.1) fun _ => bnd (ckP (isLf x || wFits σ 1 (tyO x') mt) 13 (trT x)) fun _ => .ok (.inner sz b u x' y, Lc, sn)) := sorry
theorem ckS_35 {σ : Sg} {k sz f sn : Nat} {st : Bool} {ms : Int32} {mt : Int64} {b : Lb} {u : Unit} {x y : Tr} {Lc : Lcs} (h : b.1 = 35) : ckS σ k st ms mt (.inner sz b u x y) f Lc sn = (bnd (ckE σ k st Lc x) fun x' => bnd (ckP (wFits σ 1 (tyO x') 6959884) 13 (trT x)) fun _ => .ok (.inner sz b u x' y, Lc, sn)) := sorry
theorem ckS_36 {σ : Sg} {k sz f sn : Nat} {st : Bool} {ms : Int32} {mt : Int64} {b : Lb} {u : Unit} {x y : Tr} {Lc : Lcs} (h : b.1 = 36) : ckS σ k st ms mt (.inner sz b u x y) f Lc sn = (bnd (ckS σ k st ms mt x 0 Lc sn) fun p => bnd (ckK σ k (lN b.2.2.2.2.2.1) b.2.2.2.1) fun _ => bnd (ckP (wFits σ 1 (lN b.2.2.2.2.2.1) 6959884) 13 b.2.2.2.1) fun _ => bnd (ckW p.2.1 (lN b.2.2.2.2.1) b.2.2.1) fun _ => bnd (ckS σ k st ms mt y 0 (p.2.1 ++ [(lN b.2.2.2.2.1, lN b.2.2.2.2.2.1, p.2.2)]) (p.2.2 + 1)) fun q => .ok (.inner sz (an b 0 0 p.2.1.length (p.2.2 + 1)) u p.1 q.1, Lc, q.2.2)) := sorry
theorem ckS_37 {σ : Sg} {k sz f sn : Nat} {st : Bool} {ms : Int32} {mt : Int64} {b : Lb} {u : Unit} {x y : Tr} {Lc : Lcs} (h : b.1 = 37) : ckS σ k st ms mt (.inner sz b u x y) f Lc sn = (bnd (ckE σ k st Lc x) fun x' => bnd (ckP (wFits σ 1 (tyO x') 1) 13 (trT x)) fun _ => .ok (.inner sz b u x' y, Lc, sn)) := sorry
theorem ckS_38 {σ : Sg} {k sz f sn : Nat} {st : Bool} {ms : Int32} {mt : Int64} {b : Lb} {u : Unit} {x y : Tr} {Lc : Lcs} (h : b.1 = 38) : ckS σ k st ms mt (.inner sz b u x y) f Lc sn = (bnd (ckE σ k st Lc x) fun x' => (match (if ms = 2 ∧ f = 1 then jMkO σ k (wPar σ 1 k) (tyL x') else none) with
      | none => .error (18, b.2.1)
      | some m => .ok (.inner sz (an b 0 (m + 1) 0 0) u x' y, Lc, sn))) := sorry
theorem ckS_39 {σ : Sg} {k sz f sn : Nat} {st : Bool} {ms : Int32} {mt : Int64} {b : Lb} {u : Unit} {x y : Tr} {Lc : Lcs} (h : b.1 = 39) : ckS σ k st ms mt (.inner sz b u x y) f Lc sn = (bnd (ckE σ k st Lc x) fun x' => bnd (ckP (kCl (kdO x)) 19 (trT x)) fun _ => .ok (.inner sz b u x' y, Lc, sn)) := sorry
theorem ckS_40 {σ : Sg} {k sz f sn : Nat} {st : Bool} {ms : Int32} {mt : Int64} {b : Lb} {u : Unit} {x y : Tr} {Lc : Lcs} (h : b.1 = 40) : ckS σ k st ms mt (.inner sz b u x y) f Lc sn = (bnd (ckE σ k st Lc x) fun x' => bnd (ckE σ k st Lc y) fun y' => bnd (ckP (ckPt σ k ms x') 15 (trT x)) fun _ => bnd (ckP (wFits σ 1 (tyO y') (tyO x')) 13 (trT y)) fun _ => .ok (.inner sz b u x' y', Lc, sn)) := sorry
