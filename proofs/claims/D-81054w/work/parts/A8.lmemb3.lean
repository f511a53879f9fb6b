/-! LinkHouse reads a member: the whole. -/
theorem MX.pm {σ s u : Sg} {b n q kk nm t m r : Nat} {B : Nat → Nat} {fI : Nat → Int32} {fB : Nat → Bool} {fL : Nat → Int64} {x y z : Int32} (h : MX σ s b B n q kk nm t m r fI fB fL x y z) {t' r' : Nat} {ps : List (Nat × Nat)} (hF : Fl (pPm b q) s u) (hL : LT u b B n t' 0 m r') (hP : PmP s u (yTok B n) q 0 ps) : MX σ u b B n q kk nm t' m r' (fun c => if c = 1208 then nI ps.length else fI c) fB fL x y z := sorry
theorem pHa_le {T : Nat → Tk} {s t : Nat} {z : Bool × Nat} (h : pHa T s t = .ok z) : t ≤ z.2 := sorry
theorem PmP.self {s u : Sg} {T : Nat → Tk} {q : Nat} {ps : List (Nat × Nat)} (h : PmP s u T q 0 ps) : PmP u u T q 0 ps := sorry
section SPX
variable {l : Launch} {G : Gl}
theorem lx_mem (hG : GOK G) {σ : Sg} {d b n t m r kk nm f : Nat} {B : Nat → Nat} (hd : 190 ≤ d) (h : LT σ b B n t 0 m r) (hP : Pn σ) (hm : m ≤ t) (hkk : 12 * b ≤ kk ∧ kk < 12 * b + 12) (h17 : σ.I 1117 kk 0 = nI nm) (hn : nm < 33) (hf : 12 * 701 + 7 ≤ f) : CT l G yX5_member (ws_ yX5_member cX5_member 10 none) d [.ref (G.adr 5 0), rv G 1 (some kk)] σ (oC G b (yTok B n) σ (pMem (yTok B n) f t) (fun z o s => o = .returned none ∧ MeP σ s b B n (33 * kk + nm) kk nm t m z)) := sorry
end SPX
