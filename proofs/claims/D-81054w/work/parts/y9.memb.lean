/-! THE HOUSE: classes of builds; members. -/
/-- class x3 of a build -/
def hKd (s : Sg) (x1 x2 x3 : Int32) : Option Nat := match hB s x1 x2 with
  | none => none
  | some b => if inN (hKs s b) x3 = true then some (12 * b + x3.toNatClampNeg) else none
/-- how many of its first n members are told -/
def shN (s : Sg) (k : Nat) : Nat → Nat
  | 0 => 0
  | n + 1 => shN s k n + if s.I 1200 (33 * k + n) 0 = 3 then 0 else 1
section MBR
variable {l : Launch} {G : Gl} {d n k b : Nat} {s t u : Sg} {P : Pg} {M : MSt}
theorem shN_le : ∀ n, shN s k n ≤ n := sorry
theorem hKd_at (hH : HOK s) {x1 x2 x3 : Int32} (e : hKd s x1 x2 x3 = some k) : ∃ b i, b < hN s ∧ b < 16 ∧ i < hKs s b ∧ i < 12 ∧ k = 12 * b + i ∧ hB s x1 x2 = some b ∧ x3 = nI i := sorry
theorem sp_X0_isKindOf (hG : GOK G) (hd : 3 ≤ d) (hH : HOK s) (x1 x2 x3 : Int32) : CT l G yX0_isKindOf (ws_ yX0_isKindOf cX0_isKindOf 4 (some .boolean)) d [.ref (G.adr 0 0), .int x1, .int x2, .int x3] s (rZ (hKd s x1 x2 x3).isSome (fun t => t = s)) := sorry
theorem sp_X11_classAt (hG : GOK G) (hd : 3 ≤ d) (hW : WrI s P) (x1 x2 x3 : Int32) : CT l G yX11_classAt (ws_ yX11_classAt cX11_classAt 5 (some .int)) d [.ref (G.adr 11 0), .int x1, .int x2, .int x3] s (rI (oN (hKd s x1 x2 x3)) (fun t => t = s)) := sorry
theorem sp_X0_shown (hG : GOK G) (hd : 1 ≤ d) (hS : Shp s) (hk : k < 194) : CT l G yX0_shown (ws_ yX0_shown cX0_shown 3 (some .int)) d [rv G 1 (some k)] s (rI (nI (shN s k (nMe s k))) (fun t => t = s)) := sorry
theorem sp_X11_memberMany (hG : GOK G) (hd : 1 ≤ d) (hS : Shp s) (hk : k < 194) (hm : MKm s s k) : CT l G yX11_memberMany (ws_ yX11_memberMany cX11_memberMany 4 (some .int)) d [.ref (G.adr 11 0), .int (nI (cM k))] s (rI (nI (shN s k (nMe s k))) (fun t => t = s)) := sorry
/-- MEMBERS -/
theorem inv_members (hG : GOK G) (hd : 5 ≤ d) (h : INV s n) (x1 x2 x3 : Int32) : Two l G d yX0_members (ws_ yX0_members cX0_members 4 (some .int)) yX11_members (ws_ yX11_members cX11_members 5 (some .int)) [.int x1, .int x2, .int x3] s (fun u => INV u (n + 1)) := sorry
end MBR
