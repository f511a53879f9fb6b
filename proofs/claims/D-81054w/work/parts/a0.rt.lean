/-! THE MACHINE in plain terms: trees that run, and what running them comes to. -/
/-- op, which, value, place, slot, type, use, second use -/
abbrev RLb : Type := Nat × Nat × Int32 × Nat × Nat × Int64 × Nat × Nat
abbrev RT : Type := Std.DTreeMap.Internal.Impl RLb (fun _ => Unit)
abbrev rn (b : RLb) (x y : RT) : RT := Std.DTreeMap.Internal.Impl.inner 0 b () x y
abbrev RLb.op (b : RLb) : Nat := b.1
abbrev RLb.wh (b : RLb) : Nat := b.2.1
abbrev RLb.va (b : RLb) : Int32 := b.2.2.1
abbrev RLb.pl (b : RLb) : Nat := b.2.2.2.1
abbrev RLb.sl (b : RLb) : Nat := b.2.2.2.2.1
abbrev RLb.ty (b : RLb) : Int64 := b.2.2.2.2.2.1
abbrev RLb.u1 (b : RLb) : Nat := b.2.2.2.2.2.2.1
abbrev RLb.u2 (b : RLb) : Nat := b.2.2.2.2.2.2.2
/-- ops of E's: 1 a number, 2 a local, 3 this, 4 a static field, 5 an own field, 6 a field of x, 7 in brackets, 8 ask, 9 cast, 10 of two, 11 a static call, 12 an own call, 13 by super, 14 of x, 15 new; 0 a row. Of S's: 30 block, 31 let, 32 if, 33 while, 34 return, 35 throw, 36 try, 37 out, 38 super, 39 alone, 40 put to a local, 42 to a static field, 43 to an own one, 44 to one of x; 41 a pair -/
def rLf (x : RT) : Bool := match x with
  | .leaf => true
  | _ => false
def rOp (x : RT) : Nat := match x with
  | .leaf => 0
  | .inner _ b _ _ _ => b.op
def rTy (x : RT) : Int64 := match x with
  | .leaf => 0
  | .inner _ b _ _ _ => b.ty
/-- what is loaded and told; linked; started; static fields; objects (class, first cell); cells; how many; what was put out; steps -/
abbrev MSt : Type := LSt × (Nat → Int32) × (Nat → Int32) × (Nat → Int32) × List (Nat × Nat) × (Nat → Int32) × Nat × List Int32 × Nat
abbrev MSt.ls (s : MSt) : LSt := s.1
abbrev MSt.lk (s : MSt) : Nat → Int32 := s.2.1
abbrev MSt.sr (s : MSt) : Nat → Int32 := s.2.2.1
abbrev MSt.sv (s : MSt) : Nat → Int32 := s.2.2.2.1
abbrev MSt.ob (s : MSt) : List (Nat × Nat) := s.2.2.2.2.1
abbrev MSt.ce (s : MSt) : Nat → Int32 := s.2.2.2.2.2.1
abbrev MSt.us (s : MSt) : Nat := s.2.2.2.2.2.2.1
abbrev MSt.ou (s : MSt) : List Int32 := s.2.2.2.2.2.2.2.1
abbrev MSt.sp (s : MSt) : Nat := s.2.2.2.2.2.2.2.2
abbrev MSt.wLs (s : MSt) (v : LSt) : MSt := (v, s.2)
abbrev MSt.wLk (s : MSt) (v : Nat → Int32) : MSt := (s.1, v, s.2.2)
abbrev MSt.wSr (s : MSt) (v : Nat → Int32) : MSt := (s.1, s.2.1, v, s.2.2.2)
abbrev MSt.wSv (s : MSt) (v : Nat → Int32) : MSt := (s.1, s.2.1, s.2.2.1, v, s.2.2.2.2)
abbrev MSt.wOb (s : MSt) (v : List (Nat × Nat)) (c : Nat → Int32) (u : Nat) : MSt := (s.1, s.2.1, s.2.2.1, s.2.2.2.1, v, c, u, s.2.2.2.2.2.2.2)
abbrev MSt.wCe (s : MSt) (v : Nat → Int32) : MSt := (s.1, s.2.1, s.2.2.1, s.2.2.2.1, s.2.2.2.2.1, v, s.2.2.2.2.2.2)
abbrev MSt.wOu (s : MSt) (v : List Int32) : MSt := (s.1, s.2.1, s.2.2.1, s.2.2.2.1, s.2.2.2.2.1, s.2.2.2.2.2.1, s.2.2.2.2.2.2.1, v, s.2.2.2.2.2.2.2.2)
abbrev MSt.wSp (s : MSt) (v : Nat) : MSt := (s.1, s.2.1, s.2.2.1, s.2.2.2.1, s.2.2.2.2.1, s.2.2.2.2.2.1, s.2.2.2.2.2.2.1, s.2.2.2.2.2.2.2.1, v)
/-- thrown (true) an object, or failed -/
abbrev Er : Type := Bool × Int32
abbrev Rz (α : Type) : Type := MSt × Except Er α
def rzb {α β : Type} (r : Rz α) (k : MSt → α → Rz β) : Rz β := match r.2 with
  | .error e => (r.1, .error e)
  | .ok a => k r.1 a
def rzf {α : Type} (s : MSt) (f : Int32) : Rz α := (s, .error (false, f))
def rzk {α : Type} (s : MSt) (a : α) : Rz α := (s, .ok a)
theorem rzb_k {α β : Type} {s : MSt} {a : α} {k : MSt → α → Rz β} : rzb (rzk s a) k = k s a := sorry
theorem rzb_f {α β : Type} {s : MSt} {f : Int32} {k : MSt → α → Rz β} : rzb (rzf s f) k = rzf s f := sorry
theorem rzb_e {α β : Type} {s : MSt} {e : Er} {k : MSt → α → Rz β} : rzb ((s, .error e) : Rz α) k = (s, .error e) := sorry
/-- the build of a class, its first use, the u-th one -/
def kB (σ : Sg) (k : Nat) : Nat := (σ.R 1126 k 0).getD 0
def uAt (σ : Sg) (k u : Nat) : Nat := 1000 * kB σ k + ((σ.I 1119 k 0).toNatClampNeg + u)
def uTi (σ : Sg) (k u : Nat) : Int64 := σ.L 1702 (uAt σ k u) 0
def uSo (σ : Sg) (k u : Nat) : Int32 := σ.I 1700 (uAt σ k u) 0
/-- the class that a use names -/
def uKl (σ : Sg) (k u : Nat) : Nat := (wFind σ 0 (uTi σ k u)).getD 0
/-- a use is met -/
noncomputable def rzR (σ : Sg) (k u : Nat) (s : MSt) : Rz MT := if 0 < (rsR σ (uAt σ k u) k s.ls).1 then rzf (s.wLs (rsR σ (uAt σ k u) k s.ls).2.1) (rsR σ (uAt σ k u) k s.ls).1 else rzk (s.wLs (rsR σ (uAt σ k u) k s.ls).2.1) (rsR σ (uAt σ k u) k s.ls)
/-- the class of an object, its first cell -/
def obC (s : MSt) (o : Int32) : Nat := ((s.ob[o.toNatClampNeg - 1]?).getD (0, 0)).1
def obA (s : MSt) (o : Int32) : Nat := ((s.ob[o.toNatClampNeg - 1]?).getD (0, 0)).2
noncomputable def isOfB (σ : Sg) (s : MSt) (o : Int32) (c : Nat) : Bool := decide (obC s o = c) || wHb σ 0 (obC s o) c
/-- fields of a row of classes; of a class with its parents; the place of a field -/
def fdS (σ : Sg) : List Nat → Nat
  | [] => 0
  | k :: ks => (σ.I 1123 k 0).toNatClampNeg + fdS σ ks
def fdN (σ : Sg) (k : Nat) : Nat := fdS σ (wUps σ k)
def slA (σ : Sg) (m : Nat) : Nat := (σ.I 1221 m 0).toNatClampNeg + fdS σ (wUps σ (mOf σ m)).tail
/-- the place of a static field -/
def svA (σ : Sg) (m : Nat) : Nat := 20 * nW σ (mOf σ m) + (σ.I 1221 m 0).toNatClampNeg
abbrev CalF : Type := Nat → List Int32 → MSt → Rz Int32
abbrev StaF : Type := Nat → MSt → Rz Unit
/-- one step more -/
def stp (s : MSt) : Rz Unit := if s.sp = 20000 then rzf s 14 else rzk (s.wSp (s.sp + 1)) ()
/-- a maker is called -/
def ivk (σ : Sg) (C : CalF) (m : Nat) (as : List Int32) (s : MSt) : Rz Int32 := if σ.I 1101 (mOf σ m) 0 = 26 then rzk s 0 else C m as s
/-- an object's method is called -/
noncomputable def rzV (σ : Sg) (C : CalF) (k u : Nat) (o : Int32) (as : List Int32) (s : MSt) : Rz Int32 := rzb (rzR σ k u s) fun s r =>
  if o = 0 then rzf s 13 else if uSo σ k u = 8 ∧ wHb σ 0 (obC s o) (uKl σ k u) = false then rzf s 3 else match wSel σ 0 (r.2.2.1.getD 0) (obC s o) with
    | none => rzf s (wSelc σ 0 (r.2.2.1.getD 0) (obC s o))
    | some x => if uSo σ k u = 8 ∧ ¬ σ.I 1202 x 0 = 3 ∧ ¬ σ.I 1202 x 0 = 0 then rzf s 2 else C x (o :: as) s
/-- a static method is called -/
noncomputable def rzT (σ : Sg) (C : CalF) (S : StaF) (k u : Nat) (as : List Int32) (s : MSt) : Rz Int32 := rzb (rzR σ k u s) fun s r => rzb (S (mOf σ (r.2.2.1.getD 0)) s) fun s _ => C (r.2.2.1.getD 0) as s
/-- by super -/
noncomputable def rzU (σ : Sg) (C : CalF) (k u : Nat) (o : Int32) (as : List Int32) (s : MSt) : Rz Int32 := rzb (rzR σ k u s) fun s r => C (r.2.2.2.1.getD 0) (o :: as) s
/-- a maker -/
noncomputable def rzM (σ : Sg) (C : CalF) (k u : Nat) (o : Int32) (as : List Int32) (s : MSt) : Rz Int32 := rzb (rzR σ k u s) fun s r => ivk σ C (r.2.2.1.getD 0) (o :: as) s
/-- fields: asked, put to -/
noncomputable def rzG (σ : Sg) (k u : Nat) (o : Int32) (s : MSt) : Rz Int32 := rzb (rzR σ k u s) fun s r => if o = 0 then rzf s 13 else rzk s (s.ce (obA s o + slA σ (r.2.2.1.getD 0)))
noncomputable def rzP (σ : Sg) (k u : Nat) (o v : Int32) (s : MSt) : Rz Unit := rzb (rzR σ k u s) fun s r => if o = 0 then rzf s 13 else rzk (s.wCe (setN s.ce (obA s o + slA σ (r.2.2.1.getD 0)) v)) ()
noncomputable def rzGs (σ : Sg) (S : StaF) (k u : Nat) (s : MSt) : Rz Int32 := rzb (rzR σ k u s) fun s r => rzb (S (mOf σ (r.2.2.1.getD 0)) s) fun s _ => rzk s (s.sv (svA σ (r.2.2.1.getD 0)))
noncomputable def rzPs (σ : Sg) (S : StaF) (k u : Nat) (v : Int32) (s : MSt) : Rz Unit := rzb (rzR σ k u s) fun s r => rzb (S (mOf σ (r.2.2.1.getD 0)) s) fun s _ => rzk (s.wSv (setN s.sv (svA σ (r.2.2.1.getD 0)) v)) ()
/-- cells from n on, as many as m, are 0 -/
def zeF (f : Nat → Int32) (n m : Nat) : Nat → Int32 := fun j => if n ≤ j ∧ j < n + m then 0 else f j
/-- an object is made -/
noncomputable def rzN (σ : Sg) (S : StaF) (k u : Nat) (s : MSt) : Rz Int32 := rzb (rzR σ k u s) fun s _ => rzb (S (uKl σ k u) s) fun s _ =>
  if s.ob.length = 200 ∨ 2000 < s.us + fdN σ (uKl σ k u) then rzf s 16 else rzk (s.wOb (s.ob ++ [(uKl σ k u, s.us)]) (zeF s.ce s.us (fdN σ (uKl σ k u))) (s.us + fdN σ (uKl σ k u))) (nI (s.ob.length + 1))
noncomputable def rzA (σ : Sg) (k u : Nat) (v : Int32) (s : MSt) : Rz Int32 := if v = 0 then rzk s 0 else rzb (rzR σ k u s) fun s _ => rzk s (if isOfB σ s v (uKl σ k u) = true then 1 else 0)
noncomputable def rzC (σ : Sg) (k u : Nat) (v : Int32) (s : MSt) : Rz Int32 := if v = 0 then rzk s 0 else rzb (rzR σ k u s) fun s _ => if isOfB σ s v (uKl σ k u) = true then rzk s v else rzf s 12
/-- of two -/
def op2 (w : Nat) (a c : Int32) : Int32 := if w = 14 then a + c else if w = 15 then a - c else if w = 16 then a * c else if w = 12 then (if a < c then 1 else 0) else (if a = c then 1 else 0)
/-- the first of a row -/
abbrev hd1 (l : List Int32) : Int32 := l.headD 0
/-- an E gives one value, a row of them theirs -/
noncomputable def evX (σ : Sg) (C : CalF) (S : StaF) (k : Nat) (e : Nat → Int32) : RT → MSt → Rz (List Int32)
  | .leaf, s => rzk s []
  | .inner _ b _ x y, s =>
    if b.op = 0 then rzb (evX σ C S k e x s) fun s a => rzb (evX σ C S k e y s) fun s c => rzk s (hd1 a :: c)
    else if b.op = 1 then rzk s [b.va]
    else if b.op = 2 then rzk s [e b.sl]
    else if b.op = 3 then rzk s [e 0]
    else if b.op = 4 then rzb (rzGs σ S k b.u1 s) fun s v => rzk s [v]
    else if b.op = 5 then rzb (rzG σ k b.u1 (e 0) s) fun s v => rzk s [v]
    else if b.op = 6 then rzb (evX σ C S k e x s) fun s a => rzb (rzG σ k b.u1 (hd1 a) s) fun s v => rzk s [v]
    else if b.op = 7 then evX σ C S k e x s
    else if b.op = 8 then rzb (evX σ C S k e x s) fun s a => rzb (rzA σ k b.u1 (hd1 a) s) fun s v => rzk s [v]
    else if b.op = 9 then rzb (evX σ C S k e x s) fun s a => rzb (rzC σ k b.u1 (hd1 a) s) fun s v => rzk s [v]
    else if b.op = 10 then rzb (evX σ C S k e x s) fun s a => rzb (evX σ C S k e y s) fun s c => rzk s [op2 b.wh (hd1 a) (hd1 c)]
    else if b.op = 11 then rzb (evX σ C S k e y s) fun s a => rzb (rzT σ C S k b.u1 a s) fun s v => rzk s [v]
    else if b.op = 12 then rzb (evX σ C S k e y s) fun s a => rzb (rzV σ C k b.u1 (e 0) a s) fun s v => rzk s [v]
    else if b.op = 13 then rzb (evX σ C S k e y s) fun s a => rzb (rzU σ C k b.u1 (e 0) a s) fun s v => rzk s [v]
    else if b.op = 14 then rzb (evX σ C S k e x s) fun s o => rzb (evX σ C S k e y s) fun s a => rzb (rzV σ C k b.u1 (hd1 o) a s) fun s v => rzk s [v]
    else rzb (rzN σ S k b.u1 s) fun s o => rzb (evX σ C S k e y s) fun s a => rzb (rzM σ C k b.u2 o a s) fun s _ => rzk s [o]
/-- S's: the state and the locals; it goes on (none), or has returned -/
abbrev Env : Type := Nat → Int32
abbrev Zs : Type := (MSt × Env) × Except Er (Option Int32)
/-- on, unless it threw, failed or returned -/
def zsb (r : Zs) (k : MSt × Env → Zs) : Zs := match r.2 with
  | .ok none => k r.1
  | _ => r
/-- behind an E -/
def zse {α : Type} (e : Env) (r : Rz α) (k : MSt → α → Zs) : Zs := match r.2 with
  | .error x => ((r.1, e), .error x)
  | .ok a => k r.1 a
/-- what is thrown is caught -/
def zst (r : Zs) (k : MSt × Env → Int32 → Zs) : Zs := match r.2 with
  | .error (true, o) => k r.1 o
  | _ => r
def zsk (s : MSt) (e : Env) : Zs := ((s, e), .ok none)
/-- while -/
def wlF (c : MSt → Env → Rz (List Int32)) (bd : MSt × Env → Zs) : Nat → MSt × Env → Zs
  | 0, s => (s, .error (false, 14))
  | n + 1, s => zse s.2 (stp s.1) fun t _ => zse s.2 (c t s.2) fun t v => if hd1 v = 0 then zsk t s.2 else zsb (bd (t, s.2)) fun s => wlF c bd n s
/-- an S; ff: what is laid first, behind the maker above -/
noncomputable def exS (σ : Sg) (C : CalF) (S : StaF) (k : Nat) (ff : Env → MSt → Rz Unit) : RT → MSt × Env → Zs
  | .leaf, s => (s, .ok none)
  | .inner _ b _ x y, s =>
    if b.op = 0 then zsb (exS σ C S k ff x s) fun s => exS σ C S k ff y s
    else if b.op = 30 then exS σ C S k ff x s
    else if b.op = 31 then zse s.2 (stp s.1) fun t _ => zse s.2 (evX σ C S k s.2 x t) fun t v => zsk t (setN s.2 b.sl (hd1 v))
    else if b.op = 32 then (match y with
      | .leaf => (s, .ok none)
      | .inner _ _ _ yt ye => zse s.2 (stp s.1) fun t _ => zse s.2 (evX σ C S k s.2 x t) fun t v => if hd1 v = 0 then exS σ C S k ff ye (t, s.2) else exS σ C S k ff yt (t, s.2))
    else if b.op = 33 then (match y with
      | .leaf => (s, .ok none)
      | .inner _ _ _ yt _ => zse s.2 (stp s.1) fun t _ => wlF (fun t e => evX σ C S k e x t) (fun s => exS σ C S k ff yt s) (20001 - t.sp) (t, s.2))
    else if b.op = 34 then zse s.2 (stp s.1) fun t _ => zse s.2 (evX σ C S k s.2 x t) fun t v => ((t, s.2), .ok (some (hd1 v)))
    else if b.op = 35 then zse s.2 (stp s.1) fun t _ => zse s.2 (evX σ C S k s.2 x t) fun t v => if hd1 v = 0 then ((t, s.2), .error (false, 13)) else ((t, s.2), .error (true, hd1 v))
    else if b.op = 36 then zse s.2 (stp s.1) fun t _ => zst (exS σ C S k ff x (t, s.2)) fun q o => zse q.2 (rzR σ k b.u1 q.1) fun t _ => if isOfB σ t o (uKl σ k b.u1) = true then exS σ C S k ff y (t, setN q.2 b.sl o) else ((t, q.2), .error (true, o))
    else if b.op = 37 then zse s.2 (stp s.1) fun t _ => zse s.2 (evX σ C S k s.2 x t) fun t v => zsk (if t.ou.length < 100 then t.wOu (t.ou ++ [hd1 v]) else t) s.2
    else if b.op = 38 then zse s.2 (stp s.1) fun t _ => if b.wh = 0 then zse s.2 (ff s.2 t) fun t _ => zsk t s.2 else zse s.2 (evX σ C S k s.2 x t) fun t a => zse s.2 (rzM σ C k b.u1 (s.2 0) a t) fun t _ => zse s.2 (ff s.2 t) fun t _ => zsk t s.2
    else if b.op = 39 then zse s.2 (stp s.1) fun t _ => zse s.2 (evX σ C S k s.2 x t) fun t _ => zsk t s.2
    else if b.op = 40 then zse s.2 (stp s.1) fun t _ => zse s.2 (evX σ C S k s.2 y t) fun t v => zsk t (setN s.2 b.sl (hd1 v))
    else if b.op = 42 then zse s.2 (stp s.1) fun t _ => zse s.2 (evX σ C S k s.2 y t) fun t v => zse s.2 (rzPs σ S k b.u1 (hd1 v) t) fun t _ => zsk t s.2
    else if b.op = 43 then zse s.2 (stp s.1) fun t _ => zse s.2 (evX σ C S k s.2 y t) fun t v => zse s.2 (rzP σ k b.u1 (s.2 0) (hd1 v) t) fun t _ => zsk t s.2
    else zse s.2 (stp s.1) fun t _ => zse s.2 (evX σ C S k s.2 x t) fun t o => zse s.2 (evX σ C S k s.2 y t) fun t v => zse s.2 (rzP σ k b.u1 (hd1 o) (hd1 v) t) fun t _ => zsk t s.2
/-! members, classes -/
/-- the bodies of members; the use of a bridge, of a maker that does not tell the maker above (+ 1; 0: none) -/
abbrev Pg : Type := (Nat → RT) × (Nat → Nat)
/-- the locals when a method begins -/
def envA (as : List Int32) : Env := fun j => as.getD j 0
/-- fields with an E are laid, members j .. j + n - 1 of class k -/
noncomputable def ffF (σ : Sg) (P : Pg) (C : CalF) (S : StaF) (k : Nat) (o : Int32) : Nat → Nat → MSt → Rz Unit
  | 0, _, s => rzk s ()
  | n + 1, j, s => if σ.I 1200 (33 * k + j) 0 = 0 ∧ σ.B 1203 (33 * k + j) 0 = false ∧ rLf (P.1 (33 * k + j)) = false then rzb (evX σ C S k (envA [o]) (P.1 (33 * k + j)) s) fun s v => ffF σ P C S k o n (j + 1) (s.wCe (setN s.ce (obA s o + slA σ (33 * k + j)) (hd1 v))) else ffF σ P C S k o n (j + 1) s
noncomputable def ffA (σ : Sg) (P : Pg) (C : CalF) (S : StaF) (k : Nat) (e : Env) (s : MSt) : Rz Unit := ffF σ P C S k (e 0) (nMe σ k) 0 s
/-- the first S is a call of the maker above -/
def rSup (x : RT) : Bool := match x with
  | .leaf => false
  | .inner _ _ _ y _ => match y with
    | .leaf => false
    | .inner _ _ _ z _ => decide (rOp z = 38)
/-- what a body comes to -/
def zsV (r : Zs) : Rz Int32 := match r.2 with
  | .error x => (r.1.1, .error x)
  | .ok none => (r.1.1, .ok 0)
  | .ok (some v) => (r.1.1, .ok v)
/-- a member is run -/
noncomputable def rnM (σ : Sg) (P : Pg) (C : CalF) (S : StaF) (m : Nat) (as : List Int32) (s : MSt) : Rz Int32 :=
  if σ.B 1206 m 0 = true then (if σ.B 1203 m 0 = true then rzT σ C S (mOf σ m) (P.2 m - 1) as s else rzV σ C (mOf σ m) (P.2 m - 1) (hd1 as) as.tail s)
  else if σ.I 1200 m 0 = 2 ∧ rSup (P.1 m) = false then rzb (if P.2 m = 0 then rzk s 0 else rzM σ C (mOf σ m) (P.2 m - 1) (hd1 as) [] s) fun s _ => rzb (ffA σ P C S (mOf σ m) (envA as) s) fun s _ => zsV (exS σ C S (mOf σ m) (ffA σ P C S (mOf σ m)) (P.1 m) (s, envA as))
  else zsV (exS σ C S (mOf σ m) (ffA σ P C S (mOf σ m)) (P.1 m) (s, envA as))
/-- a class's faces, each behind its own ones -/
def lyF (σ : Sg) (g : Nat → List Nat → List Nat) (k : Nat) : Nat → Nat → List Nat → List Nat
  | 0, _, L => L
  | n + 1, j, L => lyF σ g k n (j + 1) (if (wFind σ 0 (σ.L 1108 k j)).getD 0 ∈ L then L else g ((wFind σ 0 (σ.L 1108 k j)).getD 0) L ++ [(wFind σ 0 (σ.L 1108 k j)).getD 0])
def lyU (σ : Sg) : Nat → Nat → List Nat → List Nat
  | 0, _, L => L
  | n + 1, k, L => lyF σ (lyU σ n) k (nFc σ k) 0 L
/-- it has a method of objects that is not bare -/
def kWh (σ : Sg) (k : Nat) : Bool := fany (fun j => decide (σ.I 1200 (33 * k + j) 0 = 1) && (!σ.B 1205 (33 * k + j) 0 && !σ.B 1203 (33 * k + j) 0)) (nMe σ k) 0
/-- linking: what is loaded, what is linked -/
abbrev LkS : Type := LSt × (Nat → Int32)
/-- faces of k are linked -/
def lkFs (σ : Sg) (g : Nat → LkS → Int32 × LkS) (k : Nat) : Nat → Nat → LkS → Int32 × LkS
  | 0, _, s => (0, s)
  | n + 1, j, s => if (g ((wFind σ 0 (σ.L 1108 k j)).getD 0) s).1 = 0 then lkFs σ g k n (j + 1) (g ((wFind σ 0 (σ.L 1108 k j)).getD 0) s).2 else g ((wFind σ 0 (σ.L 1108 k j)).getD 0) s
/-- a final method above is overridden -/
noncomputable def kBar (σ : Sg) (k : Nat) : Bool := fany (fun j => mObj σ (33 * k + j) && (match wPar σ 0 k with
  | none => false
  | some p => (wUps σ p).any fun c => match kMet σ c (33 * k + j) with
    | none => false
    | some o => mObj σ o && (σ.B 1204 o 0 && wOv σ 0 (33 * k + j) o))) (nMe σ k) 0
/-- uses of a class that must fit -/
noncomputable def lkUs (σ : Sg) : Nat → Nat → LSt → Int32 × LSt
  | 0, _, st => (0, st)
  | n + 1, u, st => if σ.I 1700 u 0 = 17 then (if (ftd σ u st).1 = 0 then lkUs σ n (u + 1) (ftd σ u st).2 else ftd σ u st) else if σ.I 1700 u 0 = 15 then (if (cbc σ u st).1 = 0 then lkUs σ n (u + 1) (cbc σ u st).2 else cbc σ u st) else lkUs σ n (u + 1) st
/-- the parent is linked -/
def lkP (σ : Sg) (g : Nat → LkS → Int32 × LkS) (k : Nat) (s : LkS) : Int32 × LkS := match wPar σ 0 k with
  | none => (0, s)
  | some p => g p s
/-- the parent, the faces -/
def lkF (σ : Sg) (g : Nat → LkS → Int32 × LkS) (k : Nat) (s : LkS) : Int32 × LkS := if (lkP σ g k s).1 = 0 then lkFs σ g k (nFc σ k) 0 (lkP σ g k s).2 else lkP σ g k s
/-- how many uses -/
def nUk (σ : Sg) (k : Nat) : Nat := (σ.I 1120 k 0).toNatClampNeg - (σ.I 1119 k 0).toNatClampNeg
noncomputable def lkH (σ : Sg) (g : Nat → LkS → Int32 × LkS) (k : Nat) (s : LkS) : Int32 × LkS :=
  if (lkF σ g k s).1 = 0 then (if kBar σ k = true then (3, (lkF σ g k s).2) else ((lkUs σ (nUk σ k) (uAt σ k 0) (lkF σ g k s).2.1).1, ((lkUs σ (nUk σ k) (uAt σ k 0) (lkF σ g k s).2.1).2, (lkF σ g k s).2.2))) else lkF σ g k s
noncomputable def lnk (σ : Sg) : Nat → Nat → LkS → Int32 × LkS
  | 0, _, s => (0, s)
  | n + 1, k, s => if σ.I 1101 k 0 = 26 then (0, s) else if 0 < (wLd σ k s.1).1 then ((wLd σ k s.1).1, ((wLd σ k s.1).2, s.2)) else if s.2 (nW σ k) = 0 then ((lkH σ (lnk σ n) k ((wLd σ k s.1).2, s.2)).1, (evt σ (lkH σ (lnk σ n) k ((wLd σ k s.1).2, s.2)).2.1 k (if (lkH σ (lnk σ n) k ((wLd σ k s.1).2, s.2)).1 = 0 then 2 else 6), setN (lkH σ (lnk σ n) k ((wLd σ k s.1).2, s.2)).2.2 (nW σ k) (if (lkH σ (lnk σ n) k ((wLd σ k s.1).2, s.2)).1 = 0 then 1 else 100 + (lkH σ (lnk σ n) k ((wLd σ k s.1).2, s.2)).1)))
    else (if s.2 (nW σ k) = 1 then 0 else s.2 (nW σ k) - 100, ((wLd σ k s.1).2, s.2))
/-- link, with fuel enough -/
noncomputable def rzL (σ : Sg) (k : Nat) (s : MSt) : Rz Unit := if 0 < (lnk σ 65 k (s.ls, s.lk)).1 then rzf ((s.wLs (lnk σ 65 k (s.ls, s.lk)).2.1).wLk (lnk σ 65 k (s.ls, s.lk)).2.2) (lnk σ 65 k (s.ls, s.lk)).1 else rzk ((s.wLs (lnk σ 65 k (s.ls, s.lk)).2.1).wLk (lnk σ 65 k (s.ls, s.lk)).2.2) ()
/-- starting a row of faces -/
def stFs (σ : Sg) (S : StaF) : List Nat → MSt → Rz Unit
  | [], s => rzk s ()
  | k :: ks, s => rzb (if kWh σ k = true then S k s else rzk s ()) fun s _ => stFs σ S ks s
/-- constants are laid -/
def stCs (σ : Sg) (k : Nat) : Nat → Nat → MSt → MSt
  | 0, _, s => s
  | n + 1, j, s => stCs σ k n (j + 1) (if σ.I 1200 (33 * k + j) 0 = 0 ∧ σ.B 1212 (33 * k + j) 0 = true then s.wSv (setN s.sv (20 * nW σ k + (σ.I 1221 (33 * k + j) 0).toNatClampNeg) (σ.I 1213 (33 * k + j) 0)) else s)
/-- what is thrown when a class starts -/
def t8 {α : Type} (r : Rz α) : Rz α := match r.2 with
  | .error (true, _) => (r.1, .error (false, 8))
  | _ => r
/-- static fields and starts, in order -/
noncomputable def stMs (σ : Sg) (P : Pg) (C : CalF) (S : StaF) (k : Nat) : Nat → Nat → MSt → Rz Unit
  | 0, _, s => rzk s ()
  | n + 1, j, s => rzb (if σ.I 1200 (33 * k + j) 0 = 0 ∧ σ.B 1203 (33 * k + j) 0 = true ∧ σ.B 1212 (33 * k + j) 0 = false ∧ rLf (P.1 (33 * k + j)) = false then t8 (rzb (evX σ C S k (envA []) (P.1 (33 * k + j)) s) fun s v => rzk (s.wSv (setN s.sv (20 * nW σ k + (σ.I 1221 (33 * k + j) 0).toNatClampNeg) (hd1 v))) ())
      else if σ.I 1200 (33 * k + j) 0 = 3 then t8 (rzb (zsV (exS σ C S k (ffA σ P C S k) (P.1 (33 * k + j)) (s, envA []))) fun s _ => rzk s ()) else rzk s ()) fun s _ => stMs σ P C S k n (j + 1) s
/-- all that starting a class does -/
noncomputable def stAl (σ : Sg) (P : Pg) (C : CalF) (S : StaF) (k : Nat) (s : MSt) : Rz Unit :=
  rzb (if σ.B 1102 k 0 = true then rzk s () else rzb (S ((wPar σ 0 k).getD 0) s) fun s _ => stFs σ S (lyU σ 64 k []) s) fun s _ => stMs σ P C S k (nMe σ k) 0 (stCs σ k (nMe σ k) 0 s)
/-- its end -/
def stEn (σ : Sg) (k : Nat) (r : Rz Unit) : Rz Unit := match r.2 with
  | .ok _ => ((r.1.wSr (setN r.1.sr (nW σ k) 2)).wLs (evt σ r.1.ls k 4), .ok ())
  | .error x => ((r.1.wSr (setN r.1.sr (nW σ k) 3)).wLs (evt σ r.1.ls k 7), .error x)
/-- calls and starts, n levels being left -/
noncomputable def mcF (σ : Sg) (P : Pg) : Nat → CalF × StaF
  | 0 => (fun _ _ s => if s.sp = 20000 then rzf s 14 else rzf s 15, fun k s => if σ.I 1101 k 0 = 26 then rzk s () else if s.sr (nW σ k) = 0 then rzf s 15 else if s.sr (nW σ k) = 3 then rzf s 9 else rzk s ())
  | n + 1 => (fun m as s => if s.sp = 20000 then rzf s 14 else rnM σ P (mcF σ P n).1 (mcF σ P n).2 m as (s.wSp (s.sp + 1)),
      fun k s => if σ.I 1101 k 0 = 26 then rzk s () else if s.sr (nW σ k) = 0 then rzb (rzL σ k s) fun s _ => stEn σ k (stAl σ P (mcF σ P n).1 (mcF σ P n).2 k ((s.wSr (setN s.sr (nW σ k) 1)).wLs (evt σ s.ls k 3))) else if s.sr (nW σ k) = 3 then rzf s 9 else rzk s ())
/-- a run: class k is started, its method m called -/
noncomputable def mcR (σ : Sg) (P : Pg) (k m : Nat) (s : MSt) : Rz Int32 := rzb ((mcF σ P 24).2 k ((s.wOu []).wSp 0)) fun s _ => (mcF σ P 24).1 m [] s
