/-! THE HOUSE: a build is picked (the model). -/
/-- builds, tables, what is given: all but the world -/
def BsI (s : Sg) (P : Pg) : Prop := (HOK s ∧ HsR s ∧ Shp s ∧ MOK s ∧ MWO s) ∧ (∀ b, b < hN s → BOk s P b) ∧ BiK s
section MPK
variable {l : Launch} {G : Gl} {d : Nat} {s t : Sg} {P : Pg}
theorem BsI.flb (h : BsI s P) : FLb s s (pkL s) := sorry
theorem BsI.fd (h : BsI s P) {nm : Int64} (hn : TyC nm) : mFnd s (tM nm) = (hTt s ([192, 193] ++ (List.range 5).flatMap (pkL s)) nm).map cM := sorry
theorem BsI.set (h : BsI s P) (hG : GOK G) (hd : 4 ≤ d) : CT l G yX11_settle (ws_ yX11_settle cX11_settle 2 none) d [.ref (G.adr 11 0)] s (rV (fun t => SeD s t (wLy s))) := sorry
/-- which of a library's builds a slot is -/
theorem sp_X11_buildOf (hG : GOK G) (hd : 1 ≤ d) (hH : HOK s) (hR : HsT s) {lib k : Nat} (hl : lib < 5) (hk : k < hMy s lib) {x : Int32} (hx : x = nI (hSt s lib k)) : CT l G yX11_buildOf (ws_ yX11_buildOf cX11_buildOf 3 (some .int)) d [.ref (G.adr 11 0), .int x] s (rI (nI k) (fun t => t = s)) := sorry
/-- what stood there -/
def PkW (s : Sg) (q : Nat → Int32) : Prop := ∀ lib, lib < 5 → (q lib = -2 ∧ s.I 2190 0 lib = -2) ∨ ∃ k, k < hMy s lib ∧ q lib = nI k ∧ s.I 2190 0 lib = nI (hSt s lib k)
theorem sp_X11_picked (hG : GOK G) (hd : 2 ≤ d) (hH : HOK s) (hR : HsT s) {q : Nat → Int32} (hq : PkW s q) (x : Int32) : CT l G yX11_picked (ws_ yX11_picked cX11_picked 2 (some .int)) d [.ref (G.adr 11 0), .int x] s (rI (if inN 5 x = true then q x.toNatClampNeg else -1) (fun t => t = s)) := sorry
/-- the slot that is picked -/
def pkV (s : Sg) (x y : Int32) : Int32 := if y = -2 then -2 else oN (hB s x y)
abbrev pkM (s : Sg) (x y : Int32) : Sg := sI s 2190 0 x.toNatClampNeg (pkV s x y)
theorem sp_X11_pick (hG : GOK G) (hd : 5 ≤ d) (hH : HOK s) (hR : HsT s) {q : Nat → Int32} (hq : PkW s q) (x y : Int32) (hB' : pkO s x y → BsI (pkM s x y) P) : CT l G yX11_pick (ws_ yX11_pick cX11_pick 4 (some .int)) d [.ref (G.adr 11 0), .int x, .int y] s (fun o t => (pkO s x y ∧ o = .returned (some (.int (q x.toNatClampNeg))) ∧ SeD (pkM s x y) t (wLy (pkM s x y))) ∨ (¬ pkO s x y ∧ o = .returned (some (.int (-1))) ∧ t = s)) := sorry
end MPK
