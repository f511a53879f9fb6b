/-! THE HOUSE: what is asked of the machines; fresh; members. -/
section OBS
variable {l : Launch} {G : Gl} {d n k : Nat} {s t u : Sg} {P : Pg} {M : MSt}
theorem sp_wth1 (hG : GOK G) (hd : 1 ≤ d) {x : Int32} {m : Nat} (hm : m < 2 ^ 31) {y : Int32} (hy : y = nI m) {T : Nat → Sg → Prop} {K : Bool → Sg → Prop} (h0 : (∀ o, o < m → ¬ x = nI (o + 1)) → K false s) (h1 : ∀ o, o < m → x = nI (o + 1) → K true s) : CT l G yX0_within (ws_ yX0_within cX0_within 3 (some .boolean)) d [.int x, .int 1, .int y] s (oZ K T) := sorry
theorem ct_q {y : MethodName} {w : List Cond} {av : List Value} {v v' : Int32} (h : CT l G y w d av s (rI v (fun t => t = s))) (e : v = v') : CT l G y w d av s (rI v' (fun t => t = s)) := sorry
/-- the class at a place of THE WORLD -/
theorem WrI.at (h : WrI s P) {j : Nat} (hj : j < (wLy s).length) : ∃ k, (wLy s)[j]? = some k ∧ k ∈ wKs s 0 ∧ k < 194 ∧ s.R 1302 0 j = some k ∧ s.I 1128 k 0 = nI j ∧ nW s k = j ∧ (s.I 1101 k 0 = 26 ↔ j < 2) ∧ j < 64 := sorry
/-- how far the class at place j is -/
def atW (M : MSt) (j : Nat) : Int32 := if j < 2 then 4 else stE (M.ls.1 j) (M.lk j) (M.sr j)
theorem inv_state (hG : GOK G) (hd : 4 ≤ d) (h : INV s n) (x : Int32) : Two l G d yX0_state (ws_ yX0_state cX0_state 2 (some .int)) yX11_state (ws_ yX11_state cX11_state 2 (some .int)) [.int x] s (fun u => INV u (n + 1)) := sorry
theorem inv_classOf (hG : GOK G) (hd : 4 ≤ d) (h : INV s n) (x : Int32) : Two l G d yX0_classOf (ws_ yX0_classOf cX0_classOf 2 (some .int)) yX11_classOf (ws_ yX11_classOf cX11_classOf 2 (some .int)) [.int x] s (fun u => INV u (n + 1)) := sorry
theorem inv_fieldOf (hG : GOK G) (hd : 5 ≤ d) (h : INV s n) (x y : Int32) : Two l G d yX0_fieldOf (ws_ yX0_fieldOf cX0_fieldOf 3 (some .int)) yX11_fieldOf (ws_ yX11_fieldOf cX11_fieldOf 4 (some .int)) [.int x, .int y] s (fun u => INV u (n + 1)) := sorry
end OBS
