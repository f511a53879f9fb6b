/-! THE MACHINE is sound: types of trees that run, values, states. -/
/-- an object of class c stands where type t is wanted -/
def tFt (σ : Sg) (c : Nat) (t : Int64) : Prop := ∃ d, wFind σ 0 t = some d ∧ (σ.B 1102 d 0 = true ∨ c = d ∨ wHr σ 0 c d)
/-- a value of type t -/
def vOk (σ : Sg) (s : MSt) (t : Int64) (v : Int32) : Prop := t = 1 ∨ v = 0 ∨ ∃ (o c a : Nat), v = nI (o + 1) ∧ s.ob[o]? = some (c, a) ∧ tFt σ c t
/-- values of types -/
def vOkL (σ : Sg) (s : MSt) : List Int64 → List Int32 → Prop
  | [], [] => True
  | t :: ts, v :: vs => vOk σ s t v ∧ vOkL σ s ts vs
  | _, _ => False
/-- the type, the params of a use -/
def uTy (σ : Sg) (k u : Nat) : Int64 := σ.L 1207 (6402 + uAt σ k u) 0
def uPm (σ : Sg) (k u : Nat) : List Int64 := pmL σ (6402 + uAt σ k u)
/-- s is given where t is wanted, in class k -/
def wtFt (σ : Sg) (k : Nat) (s t : Int64) : Prop := s = t ∨ s = 2 ∨ t = 1 ∨ (¬ s = 1 ∧ (t = 6927257 ∨ ∃ u, u < nUk σ k ∧ uSo σ k u = 17 ∧ uTi σ k u = s ∧ σ.L 1703 (uAt σ k u) 0 = t))
def wtRw (σ : Sg) (k : Nat) : List Int64 → List Int64 → Prop
  | [], [] => True
  | s :: ss, t :: ts => wtFt σ k s t ∧ wtRw σ k ss ts
  | _, _ => False
/-- the types of a row -/
def rTyL : RT → List Int64
  | .leaf => []
  | .inner _ _ _ x y => rTy x :: rTyL y
/-- an E; an E that gives a value; a row -/
def isE1 (x : RT) : Prop := 1 ≤ rOp x ∧ rOp x ≤ 15
def isEx (x : RT) : Prop := isE1 x ∧ ¬ rTy x = 0
def isRo (x : RT) : Prop := x = .leaf ∨ (rLf x = false ∧ rOp x = 0)
/-- an E of class k is well typed: the types of locals, whether it is static, how many locals -/
def wtE (σ : Sg) (k : Nat) (Γ : Nat → Int64) (st : Bool) (nl : Nat) : RT → Prop
  | .leaf => True
  | .inner _ b _ x y => b.op ≤ 15 ∧
    (b.op = 0 → wtE σ k Γ st nl x ∧ wtE σ k Γ st nl y ∧ isEx x ∧ isRo y) ∧
    (b.op = 1 → b.ty = 1 ∨ (b.ty = 2 ∧ b.va = 0)) ∧
    (b.op = 2 → b.ty = Γ b.sl ∧ ¬ b.ty = 0 ∧ b.sl < nl) ∧
    (b.op = 3 → st = false ∧ b.ty = σ.L 1100 k 0 ∧ ¬ b.ty = 0) ∧
    (b.op = 4 → b.u1 < nUk σ k ∧ uSo σ k b.u1 = 5 ∧ uTy σ k b.u1 = b.ty ∧ ¬ b.ty = 0) ∧
    (b.op = 5 → st = false ∧ b.u1 < nUk σ k ∧ uSo σ k b.u1 = 3 ∧ uTi σ k b.u1 = σ.L 1100 k 0 ∧ uTy σ k b.u1 = b.ty ∧ ¬ b.ty = 0) ∧
    (b.op = 6 → wtE σ k Γ st nl x ∧ isEx x ∧ b.u1 < nUk σ k ∧ uSo σ k b.u1 = 3 ∧ uTi σ k b.u1 = rTy x ∧ uTy σ k b.u1 = b.ty ∧ ¬ b.ty = 0 ∧ ¬ rTy x = 1) ∧
    (b.op = 7 → wtE σ k Γ st nl x ∧ isE1 x ∧ b.ty = rTy x) ∧
    (b.op = 8 → wtE σ k Γ st nl x ∧ isEx x ∧ b.u1 < nUk σ k ∧ uSo σ k b.u1 = 14 ∧ b.ty = 1 ∧ ¬ rTy x = 1) ∧
    (b.op = 9 → wtE σ k Γ st nl x ∧ isEx x ∧ b.u1 < nUk σ k ∧ uSo σ k b.u1 = 13 ∧ b.ty = uTi σ k b.u1 ∧ ¬ b.ty = 0 ∧ ¬ rTy x = 1) ∧
    (b.op = 10 → wtE σ k Γ st nl x ∧ wtE σ k Γ st nl y ∧ isEx x ∧ isEx y ∧ b.ty = 1 ∧ 12 ≤ b.wh ∧ b.wh ≤ 16) ∧
    (b.op = 11 → wtE σ k Γ st nl y ∧ isRo y ∧ b.u1 < nUk σ k ∧ (uSo σ k b.u1 = 9 ∨ uSo σ k b.u1 = 10) ∧ uTy σ k b.u1 = b.ty ∧ wtRw σ k (rTyL y) (uPm σ k b.u1)) ∧
    (b.op = 12 → st = false ∧ wtE σ k Γ st nl y ∧ isRo y ∧ b.u1 < nUk σ k ∧ (uSo σ k b.u1 = 7 ∨ uSo σ k b.u1 = 8) ∧ uTi σ k b.u1 = σ.L 1100 k 0 ∧ uTy σ k b.u1 = b.ty ∧ wtRw σ k (rTyL y) (uPm σ k b.u1)) ∧
    (b.op = 13 → st = false ∧ wtE σ k Γ st nl y ∧ isRo y ∧ b.u1 < nUk σ k ∧ (uSo σ k b.u1 = 11 ∨ uSo σ k b.u1 = 12) ∧ uTy σ k b.u1 = b.ty ∧ wtRw σ k (rTyL y) (uPm σ k b.u1)) ∧
    (b.op = 14 → wtE σ k Γ st nl x ∧ isEx x ∧ wtE σ k Γ st nl y ∧ isRo y ∧ b.u1 < nUk σ k ∧ (uSo σ k b.u1 = 7 ∨ uSo σ k b.u1 = 8) ∧ uTi σ k b.u1 = rTy x ∧ uTy σ k b.u1 = b.ty ∧ wtRw σ k (rTyL y) (uPm σ k b.u1) ∧ ¬ rTy x = 1) ∧
    (b.op = 15 → wtE σ k Γ st nl y ∧ isRo y ∧ b.u1 < nUk σ k ∧ b.u2 < nUk σ k ∧ uSo σ k b.u1 = 1 ∧ uSo σ k b.u2 = 2 ∧ uTi σ k b.u1 = b.ty ∧ uTi σ k b.u2 = b.ty ∧ ¬ b.ty = 0 ∧ wtRw σ k (rTyL y) (uPm σ k b.u2))
/-- an S in a member of type mt -/
def wtS (σ : Sg) (k : Nat) (Γ : Nat → Int64) (st : Bool) (nl : Nat) (mt : Int64) : RT → Prop
  | .leaf => True
  | .inner _ b _ x y => (b.op = 0 ∨ (30 ≤ b.op ∧ b.op ≤ 44)) ∧
    (b.op = 0 ∨ b.op = 41 → wtS σ k Γ st nl mt x ∧ wtS σ k Γ st nl mt y) ∧
    (b.op = 0 → 30 ≤ rOp x ∧ ¬ rOp x = 41 ∧ (rLf y = true ∨ rOp y = 0)) ∧
    (b.op = 41 → 30 ≤ rOp x ∧ ¬ rOp x = 41 ∧ (rLf y = true ∨ (30 ≤ rOp y ∧ ¬ rOp y = 41))) ∧
    (b.op = 30 → wtS σ k Γ st nl mt x ∧ (rLf x = true ∨ rOp x = 0)) ∧
    (b.op = 31 → wtE σ k Γ st nl x ∧ isEx x ∧ b.sl < nl ∧ Γ b.sl = b.ty ∧ wtFt σ k (rTy x) b.ty ∧ (st = false → ¬ b.sl = 0)) ∧
    (b.op = 32 ∨ b.op = 33 → wtE σ k Γ st nl x ∧ isEx x ∧ rLf y = false ∧ rOp y = 41 ∧ wtS σ k Γ st nl mt y) ∧
    (b.op = 34 → wtE σ k Γ st nl x ∧ (rLf x = true → mt = 0) ∧ (rLf x = false → isEx x ∧ wtFt σ k (rTy x) mt ∧ ¬ mt = 0)) ∧
    (b.op = 35 → wtE σ k Γ st nl x ∧ isEx x ∧ wtFt σ k (rTy x) 6959884 ∧ ¬ rTy x = 1) ∧
    (b.op = 36 → wtS σ k Γ st nl mt x ∧ wtS σ k Γ st nl mt y ∧ (30 ≤ rOp x ∧ ¬ rOp x = 41) ∧ (30 ≤ rOp y ∧ ¬ rOp y = 41) ∧ b.u1 < nUk σ k ∧ uSo σ k b.u1 = 15 ∧ uTi σ k b.u1 = b.ty ∧ Γ b.sl = b.ty ∧ b.sl < nl ∧ (st = false → ¬ b.sl = 0)) ∧
    (b.op = 37 → wtE σ k Γ st nl x ∧ isEx x) ∧
    (b.op = 38 → st = false ∧ (¬ b.wh = 0 → wtE σ k Γ st nl x ∧ isRo x ∧ b.u1 < nUk σ k ∧ uSo σ k b.u1 = 2 ∧ uTi σ k b.u1 = σ.L 1107 k 0 ∧ σ.B 1102 k 0 = false ∧ wtRw σ k (rTyL x) (uPm σ k b.u1))) ∧
    (b.op = 39 → wtE σ k Γ st nl x ∧ isE1 x ∧ (b.wh = 0 ↔ rTy x = 0)) ∧
    (b.op = 40 → wtE σ k Γ st nl y ∧ isEx y ∧ b.sl < nl ∧ wtFt σ k (rTy y) (Γ b.sl) ∧ (st = false → ¬ b.sl = 0)) ∧
    (b.op = 42 → wtE σ k Γ st nl y ∧ isEx y ∧ b.u1 < nUk σ k ∧ uSo σ k b.u1 = 6 ∧ wtFt σ k (rTy y) (uTy σ k b.u1)) ∧
    (b.op = 43 → st = false ∧ wtE σ k Γ st nl y ∧ isEx y ∧ b.u1 < nUk σ k ∧ uSo σ k b.u1 = 4 ∧ uTi σ k b.u1 = σ.L 1100 k 0 ∧ wtFt σ k (rTy y) (uTy σ k b.u1)) ∧
    (b.op = 44 → wtE σ k Γ st nl x ∧ isEx x ∧ wtE σ k Γ st nl y ∧ isEx y ∧ b.u1 < nUk σ k ∧ uSo σ k b.u1 = 4 ∧ uTi σ k b.u1 = rTy x ∧ wtFt σ k (rTy y) (uTy σ k b.u1) ∧ ¬ rTy x = 1)
/-- an S's end can be come to -/
def rDn : RT → Bool
  | .leaf => true
  | .inner _ b _ x y => if b.op = 0 then rDn x && rDn y else if b.op = 41 then rLf y || (rDn x || rDn y) else if b.op = 30 then rDn x else if b.op = 32 then rDn y else if b.op = 34 ∨ b.op = 35 then false else if b.op = 36 then rDn x || rDn y else true
/-- a member's locals: this, params -/
def gPm (σ : Sg) (m : Nat) (Γ : Nat → Int64) : Prop := (σ.B 1203 m 0 = false → ¬ σ.I 1200 m 0 = 3 → Γ 0 = σ.L 1100 (mOf σ m) 0) ∧ ∀ i, i < nPa σ m → Γ ((if σ.B 1203 m 0 = true then 0 else 1) + i) = σ.L 1209 m i
/-- whether a member runs without an object -/
def rSt (σ : Sg) (m : Nat) : Bool := σ.B 1203 m 0 || decide (σ.I 1200 m 0 = 3)
/-- a member's number of locals -/
def nLo (σ : Sg) (m : Nat) : Nat := (σ.I 1220 m 0).toNatClampNeg
/-- a member of a class of the world is well typed -/
def wtM (σ : Sg) (P : Pg) (k m : Nat) : Prop :=
  (σ.B 1206 m 0 = true → σ.I 1200 m 0 = 1 ∧ σ.B 1205 m 0 = false ∧ 0 < P.2 m ∧ P.2 m - 1 < nUk σ k ∧ (if σ.B 1203 m 0 = true then uSo σ k (P.2 m - 1) = 9 ∨ uSo σ k (P.2 m - 1) = 10 else uSo σ k (P.2 m - 1) = 7 ∨ uSo σ k (P.2 m - 1) = 8) ∧ uTi σ k (P.2 m - 1) = σ.L 1100 k 0 ∧ uPm σ k (P.2 m - 1) = pmL σ m ∧ wtFt σ k (uTy σ k (P.2 m - 1)) (σ.L 1207 m 0) ∧ ¬ σ.L 1207 m 0 = 0 ∧ ¬ uTy σ k (P.2 m - 1) = 0) ∧
  (σ.B 1206 m 0 = false → σ.I 1200 m 0 = 0 → P.1 m = .leaf ∨ (σ.B 1212 m 0 = false ∧ isEx (P.1 m) ∧ wtFt σ k (rTy (P.1 m)) (σ.L 1207 m 0) ∧ ∃ Γ, gPm σ m Γ ∧ wtE σ k Γ (rSt σ m) (nLo σ m) (P.1 m))) ∧
  (σ.B 1206 m 0 = false → ¬ σ.I 1200 m 0 = 0 → (P.1 m = .leaf ∨ rOp (P.1 m) = 30) ∧ (∃ Γ, gPm σ m Γ ∧ wtS σ k Γ (rSt σ m) (nLo σ m) (σ.L 1207 m 0) (P.1 m)) ∧
    (σ.I 1200 m 0 = 1 → ¬ σ.L 1207 m 0 = 0 → σ.B 1205 m 0 = false → rDn (P.1 m) = false) ∧ (σ.I 1200 m 0 = 1 → σ.B 1205 m 0 = false → rLf (P.1 m) = false) ∧ (¬ σ.I 1200 m 0 = 1 → σ.L 1207 m 0 = 0) ∧
    (σ.I 1200 m 0 = 2 → σ.B 1203 m 0 = false ∧ (rSup (P.1 m) = false → ¬ P.2 m = 0 → P.2 m - 1 < nUk σ k ∧ uSo σ k (P.2 m - 1) = 2 ∧ uTi σ k (P.2 m - 1) = σ.L 1107 k 0 ∧ σ.B 1102 k 0 = false ∧ uPm σ k (P.2 m - 1) = [])))
/-- fields of a class have places of their own -/
def fdK (σ : Sg) (k : Nat) : Prop := (∃ n, n ≤ 20 ∧ σ.I 1123 k 0 = nI n) ∧ (∀ j, j < nMe σ k → σ.I 1200 (33 * k + j) 0 = 0 → ∃ n, σ.I 1221 (33 * k + j) 0 = nI n ∧ n < 20 ∧ (σ.B 1203 (33 * k + j) 0 = false → n < (σ.I 1123 k 0).toNatClampNeg)) ∧ (∀ i j, i < nMe σ k → j < nMe σ k → σ.I 1200 (33 * k + i) 0 = 0 → σ.I 1200 (33 * k + j) 0 = 0 → σ.B 1203 (33 * k + i) 0 = σ.B 1203 (33 * k + j) 0 → σ.I 1221 (33 * k + i) 0 = σ.I 1221 (33 * k + j) 0 → i = j) ∧ (σ.B 1102 k 0 = true → ∀ j, j < nMe σ k → σ.I 1200 (33 * k + j) 0 = 0 → σ.B 1203 (33 * k + j) 0 = true) ∧ (∀ j, j < nMe σ k → σ.I 1200 (33 * k + j) 0 = 0 → σ.B 1212 (33 * k + j) 0 = true → σ.B 1203 (33 * k + j) 0 = true ∧ σ.L 1207 (33 * k + j) 0 = 1)
/-- what holds of the world's classes when the machine runs -/
def WMa (σ : Sg) (P : Pg) : Prop := WOK σ 0 ∧ Shp σ ∧ WNO σ ∧ MOK σ ∧ BIK σ ∧ (∀ k, k ∈ wKs σ 0 → fdK σ k ∧ TyC (σ.L 1100 k 0) ∧ (σ.L 1100 k 0 = 6927257 → k = 192) ∧ wFind σ 0 (σ.L 1100 k 0) = some k) ∧
  (∀ k, k ∈ wKs σ 0 → ¬ σ.I 1101 k 0 = 26 → (∃ b, b < 16 ∧ σ.R 1126 k 0 = some b) ∧ (∃ n0 n1, n0 ≤ n1 ∧ n1 ≤ 1000 ∧ σ.I 1119 k 0 = nI n0 ∧ σ.I 1120 k 0 = nI n1) ∧ (∀ u, u < nUk σ k → σ.R 1701 (uAt σ k u) 0 = some k ∧ (uSo σ k u = 11 → σ.B 1102 k 0 = false ∧ ¬ σ.L 1100 k 0 = 6927257) ∧ (uSo σ k u = 12 → ∃ j, j < nFc σ k ∧ σ.L 1108 k j = uTi σ k u) ∧ (uSo σ k u = 3 ∨ uSo σ k u = 4 ∨ uSo σ k u = 5 ∨ uSo σ k u = 6 → ¬ uTy σ k u = 2)) ∧ (∀ j, j < nMe σ k → wtM σ P k (33 * k + j) ∧ (σ.I 1200 (33 * k + j) 0 = 1 → σ.I 1202 (33 * k + j) 0 = 0 ∨ σ.B 1203 (33 * k + j) 0 = true → σ.B 1205 (33 * k + j) 0 = false))) ∧
  (∀ j, j < nMe σ 192 → ¬ σ.I 1200 (33 * 192 + j) 0 = 1) ∧ ∀ j, j < nMe σ 193 → ¬ σ.I 1200 (33 * 193 + j) 0 = 1
/-! states -/
/-- a class's fits hold -/
def FitK (σ : Sg) (k : Nat) : Prop := ∀ u, u < nUk σ k → uSo σ k u = 17 → ∃ t, wFind σ 0 (σ.L 1703 (uAt σ k u) 0) = some t ∧ (σ.B 1102 t 0 = true ∨ ∃ c, wFind σ 0 (uTi σ k u) = some c ∧ (c = t ∨ (σ.B 1102 c 0 = false ∧ wHr σ 0 c t)))
/-- what is linked is loaded, stands on what is linked, fits -/
def LkC (σ : Sg) (ls : LSt) (lk : Nat → Int32) : Prop := ∀ k, k ∈ wKs σ 0 → ¬ σ.I 1101 k 0 = 26 → lk (nW σ k) = 1 → ls.1 (nW σ k) = 1 ∧ FitK σ k ∧ ∀ c, SupL σ k c → σ.I 1101 c 0 = 26 ∨ lk (nW σ c) = 1
def zl (f : Nat → Int32) : List Nat := (List.range 64).filter fun j => decide (f j = 0)
def ol (f : Nat → Int32) : List Nat := (List.range 64).filter fun j => decide (f j = 1)
/-- what was told, and what can still be told -/
def EvI (s : MSt) : Prop := s.ls.2.length + (zs s.ls).length + (zl s.lk).length + 2 * (zl s.sr).length + (ol s.sr).length ≤ 268
/-- a state of the machine -/
def MInv (σ : Sg) (s : MSt) : Prop := (LOK s.ls ∧ LCL σ s.ls ∧ EvI s) ∧ (LkC σ s.ls s.lk ∧ (∀ j, s.lk j = 0 ∨ s.lk j = 1 ∨ ∃ n, 0 < n ∧ n ≤ 16 ∧ s.lk j = nI (100 + n)) ∧ ∀ j, s.lk j ≠ 0 → s.ls.1 j = 1) ∧
  ((∀ k, k ∈ wKs σ 0 → ¬ σ.I 1101 k 0 = 26 → s.sr (nW σ k) ≠ 0 → s.lk (nW σ k) = 1) ∧ ∀ j, s.sr j = 0 ∨ s.sr j = 1 ∨ s.sr j = 2 ∨ s.sr j = 3) ∧
  (s.ob.length ≤ 200 ∧ s.us ≤ 2000 ∧ (∀ (o c a : Nat), s.ob[o]? = some (c, a) → c ∈ wKs σ 0 ∧ (σ.I 1101 c 0 = 26 ∨ s.sr (nW σ c) ≠ 0) ∧ σ.B 1102 c 0 = false ∧ a + fdN σ c ≤ s.us) ∧ ∀ (o o' c a c' a' : Nat), o < o' → s.ob[o]? = some (c, a) → s.ob[o']? = some (c', a') → a + fdN σ c ≤ a') ∧
  (∀ (o c a : Nat), s.ob[o]? = some (c, a) → ∀ d, d ∈ wUps σ c → ∀ j, j < nMe σ d → σ.I 1200 (33 * d + j) 0 = 0 → σ.B 1203 (33 * d + j) 0 = false → vOk σ s (σ.L 1207 (33 * d + j) 0) (s.ce (a + slA σ (33 * d + j)))) ∧
  (∀ k, k ∈ wKs σ 0 → ∀ j, j < nMe σ k → σ.I 1200 (33 * k + j) 0 = 0 → σ.B 1203 (33 * k + j) 0 = true → vOk σ s (σ.L 1207 (33 * k + j) 0) (s.sv (svA σ (33 * k + j)))) ∧
  (s.ou.length ≤ 100 ∧ ∀ j, s.ls.1 j ≠ 2) ∧ s.sp ≤ 20000
/-- a later state -/
def Ext (s t : MSt) : Prop := (∃ V, t.ob = s.ob ++ V) ∧ (∀ j, s.ls.1 j ≠ 0 → t.ls.1 j = s.ls.1 j) ∧ (∀ j, s.lk j ≠ 0 → t.lk j = s.lk j) ∧ (∀ j, s.sr j ≠ 0 → t.sr j = s.sr j) ∧ s.sp ≤ t.sp
