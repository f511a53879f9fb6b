/-! THE HOUSE: touch. -/
theorem pM1_no {c i : Nat} (h : (c ≤ 1303 ∨ 1313 < c) ∧ (c ≤ 1800 ∨ 1807 < c ∨ ¬ i = 1)) : pM 1 c i = false := sorry
theorem pM1_wr : wrC (pM 1) := sorry
theorem pM1_sc (c i : Nat) (h : sc c = true) : pM 1 c i = false := sorry
section TCH
variable {l : Launch} {G : Gl} {d n k b v : Nat} {s t u : Sg} {P : Pg} {M : MSt} {p : Nat → Nat → Bool}
/-- LinkHouse's machine asks a use -/
theorem sp_tch (hG : GOK G) (hd : 138 ≤ d) (h : WrI s P) (m1 : MRm s M) (m3 : MInv s M) (b1 : b < hN s) (v1 : v < hUs s b) (hin : ¬ s.I 1128 (uBy s (1000 * b + v)) 0 = -2) : CT l G yX8_resolve (ws_ yX8_resolve cX8_resolve 5 (some .int)) d [.ref (G.adr 8 1), rv G 7 (some (1000 * b + v))] s (rI (rsR s (1000 * b + v) (uBy s (1000 * b + v)) M.ls).1 (fun t => Fl (pM 1) s t ∧ MRm t (M.wLs (rsR s (1000 * b + v) (uBy s (1000 * b + v)) M.ls).2.1))) := sorry
/-- what the model's machine leaves when it asked -/
def TcM (P : Pg) (M' : MSt) (s t : Sg) : Prop := WrI t P ∧ MMm s t M' ∧ SIv t ∧ FQm s t ∧ (∀ c j, 2247 < c → c ≤ 2273 → t.I c 0 j = s.I c 0 j)
theorem sp_tcm (hG : GOK G) (hd : 143 ≤ d) (h : WrI s P) (m2 : MMm s s M) (m3 : MInv s M) (m4 : SIv s) (b1 : b < hN s) (v1 : v < hUs s b) (hin : ¬ s.I 1128 (uBy s (1000 * b + v)) 0 = -2) : CT l G yX11_ask (ws_ yX11_ask cX11_ask 6 (some .int)) d [.ref (G.adr 11 0), .int (nI (1800 * b + v)), .int (bI false)] s (rI (rsR s (1000 * b + v) (uBy s (1000 * b + v)) M.ls).1 (TcM P (M.wLs (rsR s (1000 * b + v) (uBy s (1000 * b + v)) M.ls).2.1) s)) := sorry
/-- TOUCH -/
theorem inv_touch (hG : GOK G) (hd : 145 ≤ d) (h : INV s n) (x1 x2 x3 : Int32) : Two l G d yX0_touch (ws_ yX0_touch cX0_touch 5 (some .int)) yX11_touch (ws_ yX11_touch cX11_touch 5 (some .int)) [.int x1, .int x2, .int x3] s (fun u => INV u (n + 1)) := sorry
end TCH
