/-! THE GRAMMAR of members and classes. -/
/-- sort (0 a field, 1 a method, 2 a maker, 3 a start), access that is told (1 all, 2 kin, 3 own), static, final, bare; token of the name, token of the type + 1; params (tokens of type and name); from, to, the tree -/
abbrev MRc : Type := Nat × Nat × Bool × Bool × Bool × Nat × Nat × List (Nat × Nat) × Nat × Nat × Tr
/-- token of the name; for all; sort (0 a class, 1 final, 2 bare, 3 a face); token of what it is + 1; faces; token of its host + 1; with; is closed; only; members -/
abbrev CRc : Type := Nat × Bool × Nat × Nat × List Nat × Nat × List Nat × Bool × List Nat × List MRc
/-- names with , between -/
def pRow (T : Nat → Tk) (most : Nat) : Nat → Nat → Nat → PR (List Nat × Nat)
  | 0, _, _ => .error (0, 0)
  | g + 1, k, t => bnd (pPk T t) fun x => if x = 2 ∧ k = most then .error (3, t) else bnd (pWa T 2 t) fun t1 => bnd (pHa T 44 t1) fun y => if y.1 = true then (bnd (pRow T most g (k + 1) y.2) fun z => .ok (t :: z.1, z.2)) else .ok ([t], t1)
/-- params, behind ( -/
def pPar (T : Nat → Tk) : Nat → Nat → Nat → PR (List (Nat × Nat) × Nat)
  | 0, _, _ => .error (0, 0)
  | g + 1, k, t => bnd (pPk T t) fun x => if (x = 216 ∨ x = 2) ∧ k = 4 then .error (3, t) else bnd (pTy T t) fun t1 => bnd (pWa T 1 t1) fun t2 => bnd (pHa T 44 t2) fun y => if y.1 = true then (bnd (pPar T g (k + 1) y.2) fun z => .ok ((t, t1) :: z.1, z.2)) else bnd (pWa T 41 t2) fun t3 => .ok ([(t, t1)], t3)
def pPs (T : Nat → Tk) (t : Nat) : PR (List (Nat × Nat) × Nat) := bnd (pHa T 41 t) fun x => if x.1 = true then .ok ([], x.2) else pPar T 6 0 t
def mTo (x : Nat) : Nat := if x = 207 then 1 else if x = 208 then 2 else if x = 209 then 3 else 0
/-- a word that may stand, or not if c -/
def pHn (T : Nat → Tk) (c : Bool) (s t : Nat) : PR (Bool × Nat) := if c = true then .ok (false, t) else pHa T s t
/-- a method or field, behind its name: t2 is the name's token -/
def pFM (T : Nat → Tk) (f told : Nat) (s fi ba : Bool) (ty t2 t3 : Nat) : PR (MRc × Nat) := bnd (pHa T 40 t3) fun pa => if pa.1 = true then (bnd (pPs T pa.2) fun ps => bnd (pPk T ps.2) fun z => if z = 123 then (bnd (pp T f 21 ps.2 0 nl) fun a => .ok ((1, told, s, fi, ba, t2, ty, ps.1, ps.2, a.2, a.1), a.2)) else bnd (pWa T 59 ps.2) fun t5 => .ok ((1, told, s, fi, ba, t2, ty, ps.1, 0, 0, nl), t5)) else bnd (pHa T 61 t3) fun eq => if eq.1 = true then (bnd (pp T f 0 eq.2 0 nl) fun a => bnd (pWa T 59 a.2) fun t5 => .ok ((0, told, s, fi, ba, t2, ty, [], eq.2, a.2, a.1), t5)) else bnd (pWa T 59 t3) fun t5 => .ok ((0, told, s, fi, ba, t2, ty, [], 0, 0, nl), t5)
def pMem (T : Nat → Tk) (f t : Nat) : PR (MRc × Nat) := bnd (pPk T t) fun x => if x = 213 then (bnd (pTa t) fun t1 => bnd (pp T f 21 t1 0 nl) fun a => .ok ((3, 0, false, false, false, t, 0, [], t1, a.2, a.1), a.2)) else bnd (if mTo x = 0 then .ok t else pTa t) fun t1 => bnd (pPk T t1) fun y => if y = 215 then (bnd (pTa t1) fun t2 => bnd (pWa T 40 t2) fun t3 => bnd (pPs T t3) fun ps => bnd (pp T f 21 ps.2 0 nl) fun a => .ok ((2, mTo x, false, false, false, t1, 0, ps.1, ps.2, a.2, a.1), a.2)) else bnd (pHa T 212 t1) fun s => bnd (pHa T 210 s.2) fun fi => bnd (pHn T fi.1 211 fi.2) fun ba => bnd (pHa T 214 ba.2) fun vo => bnd (if vo.1 = true then .ok vo.2 else pTy T vo.2) fun t2 => bnd (pWa T 1 t2) fun t3 => bnd (if vo.1 = true then (bnd (pPk T t3) fun z => if z = 40 then .ok t3 else .error (2, t3)) else .ok t3) fun _ => pFM T f (mTo x) s.1 fi.1 ba.1 (if vo.1 = true then 0 else vo.2 + 1) t2 t3
/-- what a member begins with -/
def cBm (x : Nat) : Bool := (decide (207 ≤ x) && decide (x ≤ 214)) || (x == 215 || (x == 216 || x == 2))
def pMs (T : Nat → Tk) (f : Nat) : Nat → Nat → Nat → PR (List MRc × Nat)
  | 0, _, _ => .error (0, 0)
  | g + 1, k, t => bnd (pPk T t) fun x => if x = 125 then (bnd (pTa t) fun t1 => .ok ([], t1)) else if cBm x = false then .error (2, t) else if k = 20 then .error (3, t) else bnd (pMem T f t) fun m => bnd (pMs T f g (k + 1) m.2) fun z => .ok (m.1 :: z.1, z.2)
/-- C, if c -/
def pOpC (T : Nat → Tk) (c : Bool) (t : Nat) : PR Nat := if c = true then pWa T 2 t else .ok t
def pOpR (T : Nat → Tk) (c : Bool) (most t : Nat) : PR (List Nat × Nat) := if c = true then pRow T most 10 0 t else .ok ([], t)
/-- a class's head behind its name, and its members -/
def pKh (T : Nat → Tk) (f : Nat) (o : Bool) (so t1 t2 : Nat) : PR (CRc × Nat) := bnd (pHa T 203 t2) fun is => bnd (pOpC T is.1 is.2) fun t3 => bnd (pHa T 202 t3) fun as_ => bnd (pOpR T as_.1 4 as_.2) fun fs => bnd (pHa T 204 fs.2) fun inn => bnd (pOpC T inn.1 inn.2) fun t4 => bnd (pHa T 205 t4) fun wi => bnd (pOpR T wi.1 8 wi.2) fun ws => bnd (pHa T 206 ws.2) fun on_ => bnd (pOpR T on_.1 8 on_.2) fun os => bnd (pWa T 123 os.2) fun t5 => bnd (pMs T f 22 0 t5) fun ms => .ok ((t1, o, so, (if is.1 = true then is.2 + 1 else 0), fs.1, (if inn.1 = true then inn.2 + 1 else 0), ws.1, on_.1, os.1, ms.1), ms.2)
def pKl (T : Nat → Tk) (f k t : Nat) : PR (CRc × Nat) := bnd (pHa T 207 t) fun o => bnd (pHa T 210 o.2) fun fi => bnd (pHn T fi.1 211 fi.2) fun ba => bnd (pPk T ba.2) fun x => bnd (if x = 201 ∧ fi.1 = false ∧ ba.1 = false then pTa ba.2 else pWa T 200 ba.2) fun t1 => bnd (pPk T t1) fun y => if y = 2 ∧ k = 12 then .error (3, t1) else bnd (pWa T 2 t1) fun t2 => pKh T f o.1 (if fi.1 = true then 1 else if ba.1 = true then 2 else if x = 201 then 3 else 0) t1 t2
/-- all classes -/
def pAll (T : Nat → Tk) (f : Nat) : Nat → Nat → Nat → PR (List CRc × Nat)
  | 0, _, _ => .error (0, 0)
  | g + 1, k, t => bnd (pPk T t) fun x => if x = 0 then .ok ([], t) else bnd (pKl T f k t) fun c => bnd (pAll T f g (k + 1) c.2) fun z => .ok (c.1 :: z.1, z.2)
