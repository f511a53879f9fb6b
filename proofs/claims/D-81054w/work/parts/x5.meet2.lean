/-! THE HOUSE: meet, both. -/
section MT2
variable {l : Launch} {G : Gl} {d n : Nat} {s t u : Sg} {P : Pg} {M : MSt}
/-- what the model leaves when it met -/
def MtM (s t : Sg) (R : MT) (f : Option Nat) : Prop := (∃ σ', FQm s σ' ∧ (∀ j, j < 64 → σ'.I 2232 0 j = s.I 2232 0 j ∧ σ'.I 2233 0 j = s.I 2233 0 j) ∧ σ'.I 2234 0 0 = s.I 2234 0 0 ∧ (∀ j, σ'.I 2235 0 j = s.I 2235 0 j) ∧ σ'.I 2236 0 0 = s.I 2236 0 0 ∧ σ'.B 2192 0 0 = s.B 2192 0 0 ∧ SIv σ' ∧ (∀ c j, 2247 < c → c ≤ 2273 → σ'.I c 0 j = s.I c 0 j) ∧ Fl (fun c _ => rg 2236 2239 c) σ' t) ∧ t.I 2237 0 0 = oN (f.map mM) ∧ t.I 2239 0 0 = nI R.2.2.2.2.length ∧ ∀ j, j < R.2.2.2.2.length → some (t.I 2238 0 j) = (R.2.2.2.2[j]?).map (fun k => s.I 2231 0 (cM k))
theorem rsR_uses (h : WrI s P) {b v : Nat} (b1 : b < hN s) (b2 : b < 16) (v1 : v < hUs s b) (hin : ¬ s.I 1128 (uBy s (1000 * b + v)) 0 = -2) : ∃ i w, i < hKs s b ∧ i < 12 ∧ uBy s (1000 * b + v) = 12 * b + i ∧ 12 * b + i ∈ wLy s ∧ MUx s s (1000 * b + v) (1800 * b + v) (12 * b + i) w ∧ s.I 2220 0 (1800 * b + v) = nI (12 * b + i) := sorry
theorem sp_X11_meet (hG : GOK G) (hd : 146 ≤ d) (h : WrI s P) (hS : SIv s) (x1 x2 x3 : Int32) : CT l G yX11_meet (ws_ yX11_meet cX11_meet 7 (some .int)) d [.ref (G.adr 11 0), .int x1, .int x2, .int x3] s (fun o t => (∃ u, hU s x1 x2 x3 = some u ∧ hMt s x1 x2 x3 = 0 ∧ o = .returned (some (.int (hRs s u).1)) ∧ MtM s t (hRs s u) (mtN s u (hRs s u))) ∨ (¬ 0 ≤ hMt s x1 x2 x3 ∧ o = .returned (some (.int (hMt s x1 x2 x3))) ∧ t = s)) := sorry
end MT2
