/-! LinkHouse writes while it judges: the judge of an S is the same. -/
section SJ
variable {τ s : Sg}
theorem SmJ.ckty (h : SmJ τ s) {k cn t : Nat} : ckTy s k cn t = ckTy τ k cn t := sorry
theorem SmJ.mko (h : SmJ τ s) (hW : WOK τ 1) (hS : Shp τ) {k : Nat} {ts : List Int64} : jMkO s k (wPar s 1 k) ts = jMkO τ k (wPar τ 1 k) ts := sorry
theorem SmJ.ckpt (h : SmJ τ s) (hW : WOK τ 1) (hS : Shp τ) {k : Nat} {ms : Int32} {x : Tr} (hg : gdE τ x) : ckPt s k ms x = ckPt τ k ms x := sorry
/-- behind a part that is judged -/
theorem bnd_d {α β : Type} {A : PR β} {f g : β → PR α} (h : ∀ m, A = .ok m → f m = g m) : bnd A f = bnd A g := sorry
theorem SmJ.ckSs (h : SmJ τ s) (hW : WOK τ 1) (hS : Shp τ) {k : Nat} {st : Bool} {ms : Int32} {mt : Int64} (hkk : wFind τ 1 (τ.L 1100 k 0) = some k) : ∀ (x : Tr) {m w a e f sn : Nat} {Lc : Lcs}, wt x m w a e → m = 2 ∨ m = 3 ∨ m = 4 ∨ m = 6 → Lc.length + (e - a) < 1000 → ckS s k st ms mt x f Lc sn = ckS τ k st ms mt x f Lc sn := sorry
end SJ
