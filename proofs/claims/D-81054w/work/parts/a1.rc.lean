/-! The code of trees that run; judged trees become trees that run. -/
def opC (w : Nat) : Int32 := if w = 12 then 9 else if w = 14 then 6 else if w = 15 then 7 else if w = 16 then 8 else 10
def rcE : RT → List Int32
  | .leaf => []
  | .inner _ b _ x y =>
    if b.op = 0 then rcE x ++ rcE y
    else if b.op = 1 then [2, b.va]
    else if b.op = 2 then [3, nI b.sl]
    else if b.op = 3 then [3, 0]
    else if b.op = 4 then [15, nI b.u1]
    else if b.op = 5 then [3, 0] ++ [13, nI b.u1]
    else if b.op = 6 then rcE x ++ [13, nI b.u1]
    else if b.op = 7 then rcE x
    else if b.op = 8 then rcE x ++ [21, nI b.u1]
    else if b.op = 9 then rcE x ++ [20, nI b.u1]
    else if b.op = 10 then rcE x ++ (rcE y ++ [opC b.wh, 0])
    else if b.op = 11 then rcE y ++ [17, nI b.u1]
    else if b.op = 12 ∨ b.op = 13 then [3, 0] ++ (rcE y ++ [17, nI b.u1])
    else if b.op = 14 then rcE x ++ (rcE y ++ [17, nI b.u1])
    else [18, nI b.u1] ++ (rcE y ++ [19, nI b.u2])
/-- the code of an S from p on; fs: fields that are laid first -/
def rcS (fs : List Nat) : RT → Nat → List Int32
  | .leaf, _ => []
  | .inner _ b _ x y, p =>
    if b.op = 0 then (let c := rcS fs x p; c ++ rcS fs y (p + c.length))
    else if b.op = 30 then rcS fs x p
    else if b.op = 31 then [1, 0] ++ (rcE x ++ [4, nI b.sl])
    else if b.op = 32 then (match y with
      | .leaf => []
      | .inner _ _ _ yt ye =>
        let c := rcE x
        let p1 := p + 2 + c.length
        let ct := rcS fs yt (p1 + 2)
        if rLf ye = true then [1, 0] ++ (c ++ ([12, nI (p1 + 2 + ct.length)] ++ ct))
        else
          let p2 := p1 + 2 + ct.length
          let ce := rcS fs ye (p2 + 2)
          [1, 0] ++ (c ++ ([12, nI (p2 + 2)] ++ (ct ++ ([11, nI (p2 + 2 + ce.length)] ++ ce)))))
    else if b.op = 33 then (match y with
      | .leaf => []
      | .inner _ _ _ yt _ =>
        let c := rcE x
        let p1 := p + 4 + c.length
        let ct := rcS fs yt (p1 + 2)
        [1, 0] ++ ([1, 0] ++ (c ++ ([12, nI (p1 + 2 + ct.length + 2)] ++ (ct ++ [11, nI (p + 2)])))))
    else if b.op = 34 then [1, 0] ++ (rcE x ++ [if rLf x = true then 24 else 25, 0])
    else if b.op = 35 then [1, 0] ++ (rcE x ++ [22, 0])
    else if b.op = 36 then (
      let c := rcS fs x (p + 2)
      let p1 := p + 2 + c.length
      let cy := rcS fs y (p1 + 4)
      [1, 0] ++ (c ++ ([11, nI (p1 + 4 + cy.length)] ++ ([4, nI b.sl] ++ cy))))
    else if b.op = 37 then [1, 0] ++ (rcE x ++ [23, 0])
    else if b.op = 38 then [1, 0] ++ ((if b.wh = 0 then [] else [3, 0] ++ (rcE x ++ [19, nI b.u1])) ++ frC fs)
    else if b.op = 39 then [1, 0] ++ (rcE x ++ (if b.wh = 0 then [] else [5, 0]))
    else if b.op = 40 then [1, 0] ++ (rcE y ++ [4, nI b.sl])
    else if b.op = 42 then [1, 0] ++ (rcE y ++ [16, nI b.u1])
    else if b.op = 43 then [1, 0] ++ ([3, 0] ++ (rcE y ++ [14, nI b.u1]))
    else [1, 0] ++ (rcE x ++ (rcE y ++ [14, nI b.u1]))
/-- the catches of an S -/
def rhS (fs : List Nat) : RT → Nat → List Ctc
  | .leaf, _ => []
  | .inner _ b _ x y, p =>
    if b.op = 0 then rhS fs x p ++ rhS fs y (p + (rcS fs x p).length)
    else if b.op = 30 then rhS fs x p
    else if b.op = 32 then (match y with
      | .leaf => []
      | .inner _ _ _ yt ye => rhS fs yt (p + 2 + (rcE x).length + 2) ++ (if rLf ye = true then [] else rhS fs ye (p + 2 + (rcE x).length + 2 + (rcS fs yt (p + 2 + (rcE x).length + 2)).length + 2)))
    else if b.op = 33 then (match y with
      | .leaf => []
      | .inner _ _ _ yt _ => rhS fs yt (p + 4 + (rcE x).length + 2))
    else if b.op = 36 then rhS fs x (p + 2) ++ ((nI (p + 2), nI (p + 2 + (rcS fs x (p + 2)).length), nI (p + 2 + (rcS fs x (p + 2)).length + 2), nI b.u1) :: rhS fs y (p + 2 + (rcS fs x (p + 2)).length + 4))
    else []
abbrev rb (op wh : Nat) (va : Int32) (pl sl : Nat) (ty : Int64) (u1 u2 : Nat) : RLb := (op, wh, va, pl, sl, ty, u1, u2)
/-- a field is asked -/
def rtG (τ : Sg) (k : Nat) (ix : Us → Nat) (b : Lb) : RT := if τ.B 1212 (mB b) 0 = true then rn (rb 1 0 (τ.I 1213 (mB b) 0) 0 0 b.2.2.2.2.2.2.1 0 0) .leaf .leaf else if τ.B 1203 (mB b) 0 = true then rn (rb 4 0 0 0 0 b.2.2.2.2.2.2.1 (ix (gtU τ k b)) 0) .leaf .leaf else rn (rb 5 0 0 0 0 b.2.2.2.2.2.2.1 (ix (gtU τ k b)) 0) .leaf .leaf
/-- the use of a call -/
abbrev clU (τ : Sg) (k : Nat) (b : Lb) : Us := uL τ k (clS τ b) (τ.L 1100 (cB b) 0) (mB b)
/-- a judged E as it runs; ix: the number of a use among those of its class -/
def rtE (τ : Sg) (k : Nat) (ix : Us → Nat) : Tr → RT
  | .leaf => .leaf
  | .inner _ b _ x y =>
    if b.1 = 0 then rn (rb 0 0 0 0 0 0 0 0) (rtE τ k ix x) (rtE τ k ix y)
    else if b.1 = 1 then rn (rb 1 0 (nI b.2.2.2.2.2.1) 0 0 1 0 0) .leaf .leaf
    else if b.1 = 2 then rn (rb 1 0 0 0 0 2 0 0) .leaf .leaf
    else if b.1 = 3 then rn (rb 3 0 0 0 0 b.2.2.2.2.2.2.1 0 0) .leaf .leaf
    else if b.1 = 4 then (if b.2.2.2.2.2.2.2.1 = 0 then rn (rb 2 0 0 b.2.2.2.2.2.2.2.2.1 (b.2.2.2.2.2.2.2.2.2 - 1) b.2.2.2.2.2.2.1 0 0) .leaf .leaf else rtG τ k ix b)
    else if b.1 = 6 then rtG τ k ix b
    else if b.1 = 17 then rn (rb 6 0 0 0 0 b.2.2.2.2.2.2.1 (ix (gtU τ k b)) 0) (rtE τ k ix x) .leaf
    else if b.1 = 5 then rn (rb (if τ.B 1203 (mB b) 0 = true then 11 else 12) 0 0 0 0 b.2.2.2.2.2.2.1 (ix (clU τ k b)) 0) .leaf (rtE τ k ix y)
    else if b.1 = 7 then rn (rb 11 0 0 0 0 b.2.2.2.2.2.2.1 (ix (clU τ k b)) 0) .leaf (rtE τ k ix y)
    else if b.1 = 8 ∨ b.1 = 9 then rn (rb 13 0 0 0 0 b.2.2.2.2.2.2.1 (ix (clU τ k b)) 0) .leaf (rtE τ k ix y)
    else if b.1 = 18 then rn (rb 14 0 0 0 0 b.2.2.2.2.2.2.1 (ix (clU τ k b)) 0) (rtE τ k ix x) (rtE τ k ix y)
    else if b.1 = 10 then rn (rb 15 0 0 0 0 b.2.2.2.2.2.2.1 (ix (uC k 1 (τ.L 1100 (cB b) 0))) (ix (uM τ k (τ.L 1100 (cB b) 0) (mB b)))) .leaf (rtE τ k ix y)
    else if b.1 = 11 then rn (rb 9 0 0 0 0 (lN b.2.2.2.2.2.1) (ix (uC k 13 (lN b.2.2.2.2.2.1))) 0) (rtE τ k ix x) .leaf
    else if b.1 = 19 then rn (rb 8 0 0 0 0 1 (ix (uC k 14 (lN b.2.2.2.2.2.1))) 0) (rtE τ k ix x) .leaf
    else if b.1 = 20 then rn (rb 7 0 0 0 0 b.2.2.2.2.2.2.1 0 0) (rtE τ k ix x) .leaf
    else rn (rb 10 b.1 0 0 0 1 0 0) (rtE τ k ix x) (rtE τ k ix y)
/-- a put -/
def rtP (τ : Sg) (k : Nat) (ix : Us → Nat) (x : Tr) (y : RT) : RT := match x with
  | .leaf => .leaf
  | .inner _ b _ x1 _ => if b.2.2.2.2.2.2.2.1 = 0 then rn (rb 40 0 0 b.2.2.2.2.2.2.2.2.1 (b.2.2.2.2.2.2.2.2.2 - 1) b.2.2.2.2.2.2.1 0 0) .leaf y
    else if τ.B 1203 (mB b) 0 = true then rn (rb 42 0 0 0 0 b.2.2.2.2.2.2.1 (ix (uF τ k 6 (τ.L 1100 (cB b) 0) (mB b))) 0) .leaf y
    else if b.1 = 17 then rn (rb 44 0 0 0 0 b.2.2.2.2.2.2.1 (ix (uF τ k 4 (τ.L 1100 (cB b) 0) (mB b))) 0) (rtE τ k ix x1) y
    else rn (rb 43 0 0 0 0 b.2.2.2.2.2.2.1 (ix (uF τ k 4 (τ.L 1100 (cB b) 0) (mB b))) 0) .leaf y
/-- the maker above -/
noncomputable def rtU (τ : Sg) (k m : Nat) (ix : Us → Nat) (x : RT) : RT := match wPar τ 1 k with
  | none => rn (rb 38 0 0 0 0 0 0 0) .leaf .leaf
  | some p => if τ.L 1100 p 0 = 6927257 then rn (rb 38 0 0 0 0 0 0 0) .leaf .leaf else rn (rb 38 1 0 0 0 0 (ix (uM τ k (τ.L 1100 p 0) m)) 0) x .leaf
/-- a judged S as it runs -/
noncomputable def rtS (τ : Sg) (k : Nat) (ix : Us → Nat) : Tr → RT
  | .leaf => .leaf
  | .inner _ b _ x y =>
    if b.1 = 0 then rn (rb 0 0 0 0 0 0 0 0) (rtS τ k ix x) (rtS τ k ix y)
    else if b.1 = 41 then rn (rb 41 0 0 0 0 0 0 0) (rtS τ k ix x) (rtS τ k ix y)
    else if b.1 = 30 then rn (rb 30 0 0 0 0 0 0 0) (rtS τ k ix x) .leaf
    else if b.1 = 31 then rn (rb 31 0 0 b.2.2.2.2.2.2.2.2.1 (b.2.2.2.2.2.2.2.2.2 - 1) (lN b.2.2.2.2.2.1) 0 0) (rtE τ k ix x) .leaf
    else if b.1 = 32 then rn (rb 32 0 0 0 0 0 0 0) (rtE τ k ix x) (rtS τ k ix y)
    else if b.1 = 33 then rn (rb 33 0 0 0 0 0 0 0) (rtE τ k ix x) (rtS τ k ix y)
    else if b.1 = 34 then rn (rb 34 0 0 0 0 0 0 0) (rtE τ k ix x) .leaf
    else if b.1 = 35 then rn (rb 35 0 0 0 0 0 0 0) (rtE τ k ix x) .leaf
    else if b.1 = 36 then rn (rb 36 0 0 b.2.2.2.2.2.2.2.2.1 (b.2.2.2.2.2.2.2.2.2 - 1) (lN b.2.2.2.2.2.1) (ix (uC k 15 (lN b.2.2.2.2.2.1))) 0) (rtS τ k ix x) (rtS τ k ix y)
    else if b.1 = 37 then rn (rb 37 0 0 0 0 0 0 0) (rtE τ k ix x) .leaf
    else if b.1 = 38 then rtU τ k (mB b) ix (rtE τ k ix x)
    else if b.1 = 39 then rn (rb 39 (if tyO x = 0 then 0 else 1) 0 0 0 0 0 0) (rtE τ k ix x) .leaf
    else rtP τ k ix x (rtE τ k ix y)
