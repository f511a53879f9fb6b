/-! THE CODE of an S in plain terms; p: where it begins. -/
/-- what is done with the object whose field is put to -/
def ptC (τ : Sg) (k : Nat) (ix : Us → Int32) (x : Tr) : List Int32 := match x with
  | .leaf => []
  | .inner _ b _ x1 _ => if b.2.2.2.2.2.2.2.1 = 0 ∨ τ.B 1203 (mB b) 0 = true then [] else if b.1 = 17 then cdE τ k ix x1 else [3, 0]
/-- the end of a put -/
def ptD (τ : Sg) (k : Nat) (ix : Us → Int32) (x : Tr) : List Int32 := match x with
  | .leaf => []
  | .inner _ b _ _ _ => if b.2.2.2.2.2.2.2.1 = 0 then [4, nI (b.2.2.2.2.2.2.2.2.2 - 1)] else if τ.B 1203 (mB b) 0 = true then [16, ix (uF τ k 6 (τ.L 1100 (cB b) 0) (mB b))] else [14, ix (uF τ k 4 (τ.L 1100 (cB b) 0) (mB b))]
/-- the fields that are laid first: their places among the members -/
def frC (fs : List Nat) : List Int32 := fs.flatMap fun j => [28, nI j]
/-- the parent's maker is called -/
noncomputable def spC (τ : Sg) (k m : Nat) (ix : Us → Int32) (x : Tr) : List Int32 := match wPar τ 1 k with
  | none => []
  | some p => if τ.L 1100 p 0 = 6927257 then [] else [3, 0] ++ (cdE τ k ix x ++ [19, ix (uM τ k (τ.L 1100 p 0) m)])
/-- the code of an S; fs: the class's fields that are laid first -/
noncomputable def cdS (τ : Sg) (k : Nat) (ix : Us → Int32) (fs : List Nat) : Tr → Nat → List Int32
  | .leaf, _ => []
  | .inner _ b _ x y, p =>
    if b.1 = 0 then (let c := cdS τ k ix fs x p; c ++ cdS τ k ix fs y (p + c.length))
    else if b.1 = 30 then cdS τ k ix fs x p
    else if b.1 = 31 then [1, 0] ++ (cdE τ k ix x ++ [4, nI (b.2.2.2.2.2.2.2.2.2 - 1)])
    else if b.1 = 32 then (match y with
      | .leaf => []
      | .inner _ _ _ yt ye =>
        let c := cdE τ k ix x
        let p1 := p + 2 + c.length
        let ct := cdS τ k ix fs yt (p1 + 2)
        if isLf ye = true then [1, 0] ++ (c ++ ([12, nI (p1 + 2 + ct.length)] ++ ct))
        else
          let p2 := p1 + 2 + ct.length
          let ce := cdS τ k ix fs ye (p2 + 2)
          [1, 0] ++ (c ++ ([12, nI (p2 + 2)] ++ (ct ++ ([11, nI (p2 + 2 + ce.length)] ++ ce)))))
    else if b.1 = 33 then (match y with
      | .leaf => []
      | .inner _ _ _ yt _ =>
        let c := cdE τ k ix x
        let p1 := p + 4 + c.length
        let ct := cdS τ k ix fs yt (p1 + 2)
        [1, 0] ++ ([1, 0] ++ (c ++ ([12, nI (p1 + 2 + ct.length + 2)] ++ (ct ++ [11, nI (p + 2)])))))
    else if b.1 = 34 then [1, 0] ++ (cdE τ k ix x ++ [if isLf x = true then 24 else 25, 0])
    else if b.1 = 35 then [1, 0] ++ (cdE τ k ix x ++ [22, 0])
    else if b.1 = 36 then (
      let c := cdS τ k ix fs x (p + 2)
      let p1 := p + 2 + c.length
      let cy := cdS τ k ix fs y (p1 + 4)
      [1, 0] ++ (c ++ ([11, nI (p1 + 4 + cy.length)] ++ ([4, nI (b.2.2.2.2.2.2.2.2.2 - 1)] ++ cy))))
    else if b.1 = 37 then [1, 0] ++ (cdE τ k ix x ++ [23, 0])
    else if b.1 = 38 then [1, 0] ++ (spC τ k (mB b) ix x ++ frC fs)
    else if b.1 = 39 then [1, 0] ++ (cdE τ k ix x ++ (if tyO x = 0 then [] else [5, 0]))
    else [1, 0] ++ (ptC τ k ix x ++ (cdE τ k ix y ++ ptD τ k ix x))
