/-! THE GRAMMAR in plain terms: what is read from token t on, within w. An error: its number, and the token. -/
abbrev PR (α : Type) : Type := Except (Nat × Nat) α
def bnd {α β : Type} (r : PR α) (k : α → PR β) : PR β := match r with
  | .error e => .error e
  | .ok a => k a
/-- kind, token, token of the name, token of the class (of super, of the type), name, class (number, type); type, member, class, slot when it is judged -/
abbrev Lb : Type := Nat × Nat × Nat × Nat × Nat × Nat × Int64 × Nat × Nat × Nat
abbrev Tr : Type := Std.DTreeMap.Internal.Impl Lb (fun _ => Unit)
abbrev nl : Tr := Std.DTreeMap.Internal.Impl.leaf
abbrev nd (b : Lb) (x y : Tr) : Tr := Std.DTreeMap.Internal.Impl.inner 0 b () x y
abbrev lb (k at_ a1 a2 nm cn : Nat) : Lb := (k, at_, a1, a2, nm, cn, 0, 0, 0, 0)
/-- the token of a tree -/
def trT (x : Tr) : Nat := match x with
  | .leaf => 0
  | .inner _ b _ _ _ => b.2.1
/-- a row of trees -/
abbrev cns (x y : Tr) : Tr := nd (lb 0 0 0 0 0 0) x y
/-- two trees that hang on one node -/
abbrev prs (x y : Tr) : Tr := nd (lb 41 0 0 0 0 0) x y
def pPk (T : Nat → Tk) (t : Nat) : PR Nat := if (T t).1 = 999 then .error (1, t) else .ok (T t).1
def pTa (t : Nat) : PR Nat := if t = 700 then .error (3, t) else .ok (t + 1)
def pWa (T : Nat → Tk) (s t : Nat) : PR Nat := bnd (pPk T t) fun x => if x = s then pTa t else .error (2, t)
def pHa (T : Nat → Tk) (s t : Nat) : PR (Bool × Nat) := bnd (pPk T t) fun x => if x = s then bnd (pTa t) fun t' => .ok (true, t') else .ok (false, t)
/-- what an E can begin with -/
def cBe (s : Nat) : Bool := s == 3 || s == 226 || s == 227 || s == 1 || s == 2 || s == 228 || s == 215 || s == 40
/-- an S or E begins at t -/
def pEn (c : Bool) (t w : Nat) : PR Nat := if c = true then (if w = 12 then .error (3, t) else .ok (w + 1)) else .error (2, t)
def pTy (T : Nat → Tk) (t : Nat) : PR Nat := bnd (pPk T t) fun x => if x = 216 ∨ x = 2 then pTa t else .error (2, t)
def tyT (T : Nat → Tk) (t : Nat) : Nat := if (T t).1 = 216 then 1 else (T t).2.1
/-- what stands behind the first sum of an E -/
def pB2 (T : Nat → Tk) (a : Tr × Nat) (k : Nat → PR (Tr × Nat)) : PR (Tr × Nat) := bnd (pPk T a.2) fun y => if y = 60 ∨ y = 4 then bnd (pTa a.2) fun t2 => bnd (k t2) fun c => .ok (nd (lb (if y = 60 then 12 else 13) (trT a.1) 0 0 0 0) a.1 c.1, c.2) else .ok a
/-- 0 an E, 1 a sum, 2 a product, 3 a unit, 4 what a unit begins with, 5 arguments, 6 what stands behind a class's name, 7 behind super, 8 behind (; 10 11 12 13 what goes on behind 1 2 3 5; 20 an S, 21 a block, 22 the rest of a block -/
def pp (T : Nat → Tk) : Nat → Nat → Nat → Nat → Tr → PR (Tr × Nat)
  | 0, _, _, _, _ => .error (0, 0)
  | f + 1, 0, t, w, _ => bnd (pPk T t) fun x => bnd (pEn (cBe x) t w) fun w1 => bnd (pp T f 1 t w1 nl) fun a => pB2 T a (fun t2 => pp T f 1 t2 w1 nl)
  | f + 1, 1, t, w, _ => bnd (pp T f 2 t w nl) fun a => pp T f 10 a.2 w a.1
  | f + 1, 10, t, w, c => bnd (pPk T t) fun x => if x = 43 ∨ x = 45 then bnd (pTa t) fun t1 => bnd (pp T f 2 t1 w nl) fun a => pp T f 10 a.2 w (nd (lb (if x = 43 then 14 else 15) (trT c) 0 0 0 0) c a.1) else .ok (c, t)
  | f + 1, 2, t, w, _ => bnd (pp T f 3 t w nl) fun a => pp T f 11 a.2 w a.1
  | f + 1, 11, t, w, c => bnd (pHa T 42 t) fun x => if x.1 = true then bnd (pp T f 3 x.2 w nl) fun a => pp T f 11 a.2 w (nd (lb 16 (trT c) 0 0 0 0) c a.1) else .ok (c, t)
  | f + 1, 3, t, w, _ => bnd (pp T f 4 t w nl) fun a => pp T f 12 a.2 w a.1
  | f + 1, 12, t, w, c => bnd (pPk T t) fun x => if x = 46 ∨ x = 229 then bnd (pTa t) fun t1 => (if x = 229 then bnd (pWa T 2 t1) fun t2 => pp T f 12 t2 w (nd (lb 19 (trT c) 0 t1 0 (T t1).2.1) c nl) else bnd (pWa T 1 t1) fun t2 => bnd (pPk T t2) fun y => if y = 40 then bnd (pp T f 5 t2 w nl) fun a => pp T f 12 a.2 w (nd (lb 18 (trT c) t1 0 (T t1).2.1 0) c a.1) else pp T f 12 t2 w (nd (lb 17 (trT c) t1 0 (T t1).2.1 0) c nl)) else .ok (c, t)
  | f + 1, 4, t, w, _ => bnd (pPk T t) fun x => if cBe x = true then bnd (pTa t) fun t1 => (if x = 3 then .ok (nd (lb 1 t 0 0 0 (T t).2.1) nl nl, t1) else if x = 226 then .ok (nd (lb 2 t 0 0 0 0) nl nl, t1) else if x = 227 then .ok (nd (lb 3 t 0 0 0 0) nl nl, t1) else if x = 1 then (bnd (pPk T t1) fun y => if y = 40 then bnd (pp T f 5 t1 w nl) fun a => .ok (nd (lb 5 t t 0 (T t).2.1 0) nl a.1, a.2) else .ok (nd (lb 4 t t 0 (T t).2.1 0) nl nl, t1)) else if x = 2 then pp T f 6 t1 w nl else if x = 228 then pp T f 7 t1 w nl else if x = 215 then (bnd (pWa T 2 t1) fun t2 => bnd (pp T f 5 t2 w nl) fun a => .ok (nd (lb 10 t 0 t1 0 (T t1).2.1) nl a.1, a.2)) else pp T f 8 t1 w nl) else .error (2, t)
  | f + 1, 5, t, w, _ => bnd (pWa T 40 t) fun t1 => bnd (pHa T 41 t1) fun x => if x.1 = true then .ok (nl, x.2) else bnd (pp T f 0 t1 w nl) fun a => bnd (pp T f 13 a.2 w nl) fun c => .ok (cns a.1 c.1, c.2)
  | f + 1, 13, t, w, _ => bnd (pHa T 44 t) fun x => if x.1 = true then bnd (pp T f 0 x.2 w nl) fun a => bnd (pp T f 13 a.2 w nl) fun c => .ok (cns a.1 c.1, c.2) else bnd (pWa T 41 t) fun t1 => .ok (nl, t1)
  | f + 1, 6, t, w, _ => bnd (pWa T 46 t) fun t1 => bnd (pPk T t1) fun x => if x = 228 then bnd (pTa t1) fun t2 => bnd (pWa T 46 t2) fun t3 => bnd (pWa T 1 t3) fun t4 => bnd (pPk T t4) fun y => (if y = 40 then bnd (pp T f 5 t4 w nl) fun a => .ok (nd (lb 8 (t - 1) t3 t1 (T t3).2.1 (T (t - 1)).2.1) nl a.1, a.2) else .error (2, t4)) else bnd (pWa T 1 t1) fun t2 => bnd (pPk T t2) fun y => if y = 40 then bnd (pp T f 5 t2 w nl) fun a => .ok (nd (lb 7 (t - 1) t1 (t - 1) (T t1).2.1 (T (t - 1)).2.1) nl a.1, a.2) else .ok (nd (lb 6 (t - 1) t1 (t - 1) (T t1).2.1 (T (t - 1)).2.1) nl nl, t2)
  | f + 1, 7, t, w, _ => bnd (pWa T 46 t) fun t1 => bnd (pWa T 1 t1) fun t2 => bnd (pPk T t2) fun y => if y = 40 then bnd (pp T f 5 t2 w nl) fun a => .ok (nd (lb 9 (t - 1) t1 0 (T t1).2.1 0) nl a.1, a.2) else .error (2, t2)
  | f + 1, 8, t, w, _ => bnd (pPk T t) fun x => if x = 2 ∧ t < 700 ∧ (T (t + 1)).1 = 41 then bnd (pTa (t + 1)) fun t2 => bnd (pPk T t2) fun y => bnd (pEn (cBe y) t2 w) fun w1 => bnd (pp T f 3 t2 w1 nl) fun a => .ok (nd (lb 11 (t - 1) 0 t 0 (T t).2.1) a.1 nl, a.2) else bnd (pp T f 0 t w nl) fun a => bnd (pWa T 41 a.2) fun t1 => .ok (nd (lb 20 (t - 1) 0 0 0 0) a.1 nl, t1)
  | f + 1, 20, t, w, _ => bnd (pPk T t) fun x => if x = 123 then pp T f 21 t w nl else bnd (pEn (x == 217 || x == 218 || x == 220 || x == 221 || x == 222 || x == 223 || x == 225 || cBe x) t w) fun w1 =>
      if x = 217 then (bnd (pTa t) fun t1 => bnd (pTy T t1) fun t2 => bnd (pWa T 1 t2) fun t3 => bnd (pWa T 61 t3) fun t4 => bnd (pp T f 0 t4 w1 nl) fun a => bnd (pWa T 59 a.2) fun t5 => .ok (nd (lb 31 t t2 t1 (T t2).2.1 (tyT T t1)) a.1 nl, t5))
      else if x = 218 ∨ x = 220 then (bnd (pTa t) fun t1 => bnd (pWa T 40 t1) fun t2 => bnd (pp T f 0 t2 w1 nl) fun a => bnd (pWa T 41 a.2) fun t3 => bnd (pp T f 20 t3 w1 nl) fun c => if x = 218 then (bnd (pHa T 219 c.2) fun y => if y.1 = true then (bnd (pp T f 20 y.2 w1 nl) fun e => .ok (nd (lb 32 t 0 0 0 0) a.1 (prs c.1 e.1), e.2)) else .ok (nd (lb 32 t 0 0 0 0) a.1 (prs c.1 nl), c.2)) else .ok (nd (lb 33 t 0 0 0 0) a.1 (prs c.1 nl), c.2))
      else if x = 221 then (bnd (pTa t) fun t1 => bnd (pPk T t1) fun y => if y = 59 then (bnd (pWa T 59 t1) fun t2 => .ok (nd (lb 34 t 0 0 0 0) nl nl, t2)) else bnd (pp T f 0 t1 w1 nl) fun a => bnd (pWa T 59 a.2) fun t2 => .ok (nd (lb 34 t 0 0 0 0) a.1 nl, t2))
      else if x = 222 ∨ x = 225 then (bnd (pTa t) fun t1 => bnd (pp T f 0 t1 w1 nl) fun a => bnd (pWa T 59 a.2) fun t2 => .ok (nd (lb (if x = 222 then 35 else 37) t 0 0 0 0) a.1 nl, t2))
      else if x = 223 then (bnd (pTa t) fun t1 => bnd (pp T f 21 t1 w1 nl) fun a => bnd (pWa T 224 a.2) fun t2 => bnd (pWa T 40 t2) fun t3 => bnd (pWa T 2 t3) fun t4 => bnd (pWa T 1 t4) fun t5 => bnd (pWa T 41 t5) fun t6 => bnd (pp T f 21 t6 w1 nl) fun c => .ok (nd (lb 36 t t4 t3 (T t4).2.1 (T t3).2.1) a.1 c.1, c.2))
      else if x = 228 ∧ t < 700 ∧ (T (t + 1)).1 = 40 then (bnd (pp T f 5 (t + 1) w1 nl) fun a => bnd (pWa T 59 a.2) fun t2 => .ok (nd (lb 38 t 0 0 0 0) a.1 nl, t2))
      else bnd (pp T f 0 t w1 nl) fun a => bnd (pHa T 61 a.2) fun y => if y.1 = true then (bnd (pp T f 0 y.2 w1 nl) fun c => bnd (pWa T 59 c.2) fun t2 => .ok (nd (lb 40 t 0 0 0 0) a.1 c.1, t2)) else bnd (pWa T 59 a.2) fun t2 => .ok (nd (lb 39 t 0 0 0 0) a.1 nl, t2)
  | f + 1, 21, t, w, _ => bnd (pPk T t) fun x => bnd (pEn (x == 123) t w) fun w1 => bnd (pTa t) fun t1 => bnd (pp T f 22 t1 w1 nl) fun a => .ok (nd (lb 30 t 0 0 0 0) a.1 nl, a.2)
  | f + 1, 22, t, w, _ => bnd (pPk T t) fun x => if x = 125 then (bnd (pTa t) fun t1 => .ok (nl, t1)) else bnd (pp T f 20 t w nl) fun a => bnd (pp T f 22 a.2 w nl) fun c => .ok (cns a.1 c.1, c.2)
  | _ + 1, _, _, _, _ => .error (0, 0)
theorem bnd_ok {α β : Type} {r : PR α} {k : α → PR β} {z : β} (h : bnd r k = .ok z) : ∃ a, r = .ok a ∧ k a = .ok z := sorry
theorem pPk_ok {T : Nat → Tk} {t x : Nat} (h : pPk T t = .ok x) : ¬ (T t).1 = 999 ∧ x = (T t).1 := sorry
theorem pTa_ok {t z : Nat} (h : pTa t = .ok z) : z = t + 1 ∧ ¬ t = 700 := sorry
theorem pWa_ok {T : Nat → Tk} {s t z : Nat} (h : pWa T s t = .ok z) : z = t + 1 ∧ ¬ t = 700 ∧ (T t).1 = s ∧ ¬ (T t).1 = 999 := sorry
theorem pHa_ok {T : Nat → Tk} {s t : Nat} {z : Bool × Nat} (h : pHa T s t = .ok z) : (z.1 = true ∧ z.2 = t + 1 ∧ ¬ t = 700 ∧ (T t).1 = s ∧ ¬ (T t).1 = 999) ∨ (z = (false, t) ∧ ¬ (T t).1 = s ∧ ¬ (T t).1 = 999) := sorry
theorem pEn_ok {c : Bool} {t w z : Nat} (h : pEn c t w = .ok z) : c = true ∧ ¬ w = 12 ∧ z = w + 1 := sorry
theorem pTy_ok {T : Nat → Tk} {t z : Nat} (h : pTy T t = .ok z) : z = t + 1 ∧ ¬ t = 700 ∧ ((T t).1 = 216 ∨ (T t).1 = 2) := sorry
theorem pp_0 {T : Nat → Tk} {f t w : Nat} {c : Tr} : pp T (f + 1) 0 t w c = (bnd (pPk T t) fun x => bnd (pEn (cBe x) t w) fun w1 => bnd (pp T f 1 t w1 nl) fun a => pB2 T a (fun t2 => pp T f 1 t2 w1 nl)) := sorry
theorem pp_1 {T : Nat → Tk} {f t w : Nat} {c : Tr} : pp T (f + 1) 1 t w c = (bnd (pp T f 2 t w nl) fun a => pp T f 10 a.2 w a.1) := sorry
theorem pp_10 {T : Nat → Tk} {f t w : Nat} {c : Tr} : pp T (f + 1) 10 t w c = (bnd (pPk T t) fun x => if x = 43 ∨ x = 45 then bnd (pTa t) fun t1 => bnd (pp T f 2 t1 w nl) fun a => pp T f 10 a.2 w (nd (lb (if x = 43 then 14 else 15) (trT c) 0 0 0 0) c a.1) else .ok (c, t)) := sorry
theorem pp_2 {T : Nat → Tk} {f t w : Nat} {c : Tr} : pp T (f + 1) 2 t w c = (bnd (pp T f 3 t w nl) fun a => pp T f 11 a.2 w a.1) := sorry
theorem pp_11 {T : Nat → Tk} {f t w : Nat} {c : Tr} : pp T (f + 1) 11 t w c = (bnd (pHa T 42 t) fun x => if x.1 = true then bnd (pp T f 3 x.2 w nl) fun a => pp T f 11 a.2 w (nd (lb 16 (trT c) 0 0 0 0) c a.1) else .ok (c, t)) := sorry
theorem pp_3 {T : Nat → Tk} {f t w : Nat} {c : Tr} : pp T (f + 1) 3 t w c = (bnd (pp T f 4 t w nl) fun a => pp T f 12 a.2 w a.1) := sorry
theorem pp_12 {T : Nat → Tk} {f t w : Nat} {c : Tr} : pp T (f + 1) 12 t w c = (bnd (pPk T t) fun x => if x = 46 ∨ x = 229 then bnd (pTa t) fun t1 => (if x = 229 then bnd (pWa T 2 t1) fun t2 => pp T f 12 t2 w (nd (lb 19 (trT c) 0 t1 0 (T t1).2.1) c nl) else bnd (pWa T 1 t1) fun t2 => bnd (pPk T t2) fun y => if y = 40 then bnd (pp T f 5 t2 w nl) fun a => pp T f 12 a.2 w (nd (lb 18 (trT c) t1 0 (T t1).2.1 0) c a.1) else pp T f 12 t2 w (nd (lb 17 (trT c) t1 0 (T t1).2.1 0) c nl)) else .ok (c, t)) := sorry
theorem pp_4 {T : Nat → Tk} {f t w : Nat} {c : Tr} : pp T (f + 1) 4 t w c = (bnd (pPk T t) fun x => if cBe x = true then bnd (pTa t) fun t1 => (if x = 3 then .ok (nd (lb 1 t 0 0 0 (T t).2.1) nl nl, t1) else if x = 226 then .ok (nd (lb 2 t 0 0 0 0) nl nl, t1) else if x = 227 then .ok (nd (lb 3 t 0 0 0 0) nl nl, t1) else if x = 1 then (bnd (pPk T t1) fun y => if y = 40 then bnd (pp T f 5 t1 w nl) fun a => .ok (nd (lb 5 t t 0 (T t).2.1 0) nl a.1, a.2) else .ok (nd (lb 4 t t 0 (T t).2.1 0) nl nl, t1)) else if x = 2 then pp T f 6 t1 w nl else if x = 228 then pp T f 7 t1 w nl else if x = 215 then (bnd (pWa T 2 t1) fun t2 => bnd (pp T f 5 t2 w nl) fun a => .ok (nd (lb 10 t 0 t1 0 (T t1).2.1) nl a.1, a.2)) else pp T f 8 t1 w nl) else .error (2, t)) := sorry
theorem pp_5 {T : Nat → Tk} {f t w : Nat} {c : Tr} : pp T (f + 1) 5 t w c = (bnd (pWa T 40 t) fun t1 => bnd (pHa T 41 t1) fun x => if x.1 = true then .ok (nl, x.2) else bnd (pp T f 0 t1 w nl) fun a => bnd (pp T f 13 a.2 w nl) fun c => .ok (cns a.1 c.1, c.2)) := sorry
theorem pp_13 {T : Nat → Tk} {f t w : Nat} {c : Tr} : pp T (f + 1) 13 t w c = (bnd (pHa T 44 t) fun x => if x.1 = true then bnd (pp T f 0 x.2 w nl) fun a => bnd (pp T f 13 a.2 w nl) fun c => .ok (cns a.1 c.1, c.2) else bnd (pWa T 41 t) fun t1 => .ok (nl, t1)) := sorry
theorem pp_6 {T : Nat → Tk} {f t w : Nat} {c : Tr} : pp T (f + 1) 6 t w c = (bnd (pWa T 46 t) fun t1 => bnd (pPk T t1) fun x => if x = 228 then bnd (pTa t1) fun t2 => bnd (pWa T 46 t2) fun t3 => bnd (pWa T 1 t3) fun t4 => bnd (pPk T t4) fun y => (if y = 40 then bnd (pp T f 5 t4 w nl) fun a => .ok (nd (lb 8 (t - 1) t3 t1 (T t3).2.1 (T (t - 1)).2.1) nl a.1, a.2) else .error (2, t4)) else bnd (pWa T 1 t1) fun t2 => bnd (pPk T t2) fun y => if y = 40 then bnd (pp T f 5 t2 w nl) fun a => .ok (nd (lb 7 (t - 1) t1 (t - 1) (T t1).2.1 (T (t - 1)).2.1) nl a.1, a.2) else .ok (nd (lb 6 (t - 1) t1 (t - 1) (T t1).2.1 (T (t - 1)).2.1) nl nl, t2)) := sorry
theorem pp_7 {T : Nat → Tk} {f t w : Nat} {c : Tr} : pp T (f + 1) 7 t w c = (bnd (pWa T 46 t) fun t1 => bnd (pWa T 1 t1) fun t2 => bnd (pPk T t2) fun y => if y = 40 then bnd (pp T f 5 t2 w nl) fun a => .ok (nd (lb 9 (t - 1) t1 0 (T t1).2.1 0) nl a.1, a.2) else .error (2, t2)) := sorry
theorem pp_8 {T : Nat → Tk} {f t w : Nat} {c : Tr} : pp T (f + 1) 8 t w c = (bnd (pPk T t) fun x => if x = 2 ∧ t < 700 ∧ (T (t + 1)).1 = 41 then bnd (pTa (t + 1)) fun t2 => bnd (pPk T t2) fun y => bnd (pEn (cBe y) t2 w) fun w1 => bnd (pp T f 3 t2 w1 nl) fun a => .ok (nd (lb 11 (t - 1) 0 t 0 (T t).2.1) a.1 nl, a.2) else bnd (pp T f 0 t w nl) fun a => bnd (pWa T 41 a.2) fun t1 => .ok (nd (lb 20 (t - 1) 0 0 0 0) a.1 nl, t1)) := sorry
theorem pp_20 {T : Nat → Tk} {f t w : Nat} {c : Tr} : pp T (f + 1) 20 t w c = (bnd (pPk T t) fun x => if x = 123 then pp T f 21 t w nl else bnd (pEn (x == 217 || x == 218 || x == 220 || x == 221 || x == 222 || x == 223 || x == 225 || cBe x) t w) fun w1 =>
      if x = 217 then (bnd (pTa t) fun t1 => bnd (pTy T t1) fun t2 => bnd (pWa T 1 t2) fun t3 => bnd (pWa T 61 t3) fun t4 => bnd (pp T f 0 t4 w1 nl) fun a => bnd (pWa T 59 a.2) fun t5 => .ok (nd (lb 31 t t2 t1 (T t2).2.1 (tyT T t1)) a.1 nl, t5))
      else if x = 218 ∨ x = 220 then (bnd (pTa t) fun t1 => bnd (pWa T 40 t1) fun t2 => bnd (pp T f 0 t2 w1 nl) fun a => bnd (pWa T 41 a.2) fun t3 => bnd (pp T f 20 t3 w1 nl) fun c => if x = 218 then (bnd (pHa T 219 c.2) fun y => if y.1 = true then (bnd (pp T f 20 y.2 w1 nl) fun e => .ok (nd (lb 32 t 0 0 0 0) a.1 (prs c.1 e.1), e.2)) else .ok (nd (lb 32 t 0 0 0 0) a.1 (prs c.1 nl), c.2)) else .ok (nd (lb 33 t 0 0 0 0) a.1 (prs c.1 nl), c.2))
      else if x = 221 then (bnd (pTa t) fun t1 => bnd (pPk T t1) fun y => if y = 59 then (bnd (pWa T 59 t1) fun t2 => .ok (nd (lb 34 t 0 0 0 0) nl nl, t2)) else bnd (pp T f 0 t1 w1 nl) fun a => bnd (pWa T 59 a.2) fun t2 => .ok (nd (lb 34 t 0 0 0 0) a.1 nl, t2))
      else if x = 222 ∨ x = 225 then (bnd (pTa t) fun t1 => bnd (pp T f 0 t1 w1 nl) fun a => bnd (pWa T 59 a.2) fun t2 => .ok (nd (lb (if x = 222 then 35 else 37) t 0 0 0 0) a.1 nl, t2))
      else if x = 223 then (bnd (pTa t) fun t1 => bnd (pp T f 21 t1 w1 nl) fun a => bnd (pWa T 224 a.2) fun t2 => bnd (pWa T 40 t2) fun t3 => bnd (pWa T 2 t3) fun t4 => bnd (pWa T 1 t4) fun t5 => bnd (pWa T 41 t5) fun t6 => bnd (pp T f 21 t6 w1 nl) fun c => .ok (nd (lb 36 t t4 t3 (T t4).2.1 (T t3).2.1) a.1 c.1, c.2))
      else if x = 228 ∧ t < 700 ∧ (T (t + 1)).1 = 40 then (bnd (pp T f 5 (t + 1) w1 nl) fun a => bnd (pWa T 59 a.2) fun t2 => .ok (nd (lb 38 t 0 0 0 0) a.1 nl, t2))
      else bnd (pp T f 0 t w1 nl) fun a => bnd (pHa T 61 a.2) fun y => if y.1 = true then (bnd (pp T f 0 y.2 w1 nl) fun c => bnd (pWa T 59 c.2) fun t2 => .ok (nd (lb 40 t 0 0 0 0) a.1 c.1, t2)) else bnd (pWa T 59 a.2) fun t2 => .ok (nd (lb 39 t 0 0 0 0) a.1 nl, t2)) := sorry
theorem pp_21 {T : Nat → Tk} {f t w : Nat} {c : Tr} : pp T (f + 1) 21 t w c = (bnd (pPk T t) fun x => bnd (pEn (x == 123) t w) fun w1 => bnd (pTa t) fun t1 => bnd (pp T f 22 t1 w1 nl) fun a => .ok (nd (lb 30 t 0 0 0 0) a.1 nl, a.2)) := sorry
theorem pp_22 {T : Nat → Tk} {f t w : Nat} {c : Tr} : pp T (f + 1) 22 t w c = (bnd (pPk T t) fun x => if x = 125 then (bnd (pTa t) fun t1 => .ok (nl, t1)) else bnd (pp T f 20 t w nl) fun a => bnd (pp T f 22 a.2 w nl) fun c => .ok (cns a.1 c.1, c.2)) := sorry
/-- how many tokens are taken at least -/
def dl : Nat → Nat
  | 10 => 0
  | 11 => 0
  | 12 => 0
  | _ => 1
def tg (g : Nat) : Bool := g == 0 || g == 1 || g == 2 || g == 3 || g == 4 || g == 5 || g == 6 || g == 7 || g == 8 || g == 10 || g == 11 || g == 12 || g == 13 || g == 20 || g == 21 || g == 22
/-- what is read goes on -/
theorem pp_gt {T : Nat → Tk} : ∀ (f g t w : Nat) (c : Tr) (z : Tr × Nat), tg g = true → pp T f g t w c = .ok z → t + dl g ≤ z.2 ∧ (t ≤ 700 → z.2 ≤ 700) := sorry
