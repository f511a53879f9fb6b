/-! LinkHouse reads a class: steps of its head, Build.more. -/
theorem pU_k {b kk : Nat} : ∀ c, 1099 < c → c ≤ 1222 → pU b c kk = false := sorry
section KX
variable {σ s u : Sg} {b n kk k t m r : Nat} {B : Nat → Nat} {fI : Nat → Int32} {fB : Nat → Bool} {fL : Nat → Int64} {p0 p5 : Nat} {fs ws os : List Nat}
theorem KX.tk {t' r' : Nat} (h : KX σ s b B n kk k t m r fI fB fL p0 p5 fs ws os) (hF : Fl (pU b) s u) (hL : LT u b B n t' 0 m r') : KX σ u b B n kk k t' m r' fI fB fL p0 p5 fs ws os := sorry
theorem KX.kw {s' : Sg} {gI : Nat → Int32} {gB : Nat → Bool} {gL : Nat → Int64} {q0 q5 : Nat} {fs' ws' os' : List Nat} (h : KX σ s b B n kk k t m r fI fB fL p0 p5 fs ws os) (hF : Fl (pKd b kk) s s') (hK : Fl (pKM b) s s') (h07 : s'.I 2007 b 0 = s.I 2007 b 0) (h17 : s'.I 1117 kk 0 = s.I 1117 kk 0) (hM : KB s' kk b gI gB gL) (hH : KH s' (yTok B n) kk q0 q5 fs' ws' os') : KX σ s' b B n kk k t m r gI gB gL q0 q5 fs' ws' os' := sorry
theorem KX.vI {c0 : Nat} {v : Int32} (h : KX σ s b B n kk k t m r fI fB fL p0 p5 fs ws os) (hk : 12 * b ≤ kk ∧ kk < 12 * b + 12) (hc : iK c0 = true) : KX σ (sI s c0 kk 0 v) b B n kk k t m r (fun c => if c = c0 then v else fI c) fB fL p0 p5 fs ws os := sorry
theorem KX.vB {c0 : Nat} {v : Bool} (h : KX σ s b B n kk k t m r fI fB fL p0 p5 fs ws os) (hk : 12 * b ≤ kk ∧ kk < 12 * b + 12) (hc : bK c0 = true) : KX σ (sB s c0 kk 0 v) b B n kk k t m r fI (fun c => if c = c0 then v else fB c) fL p0 p5 fs ws os := sorry
theorem KX.vL {c0 : Nat} {v : Int64} (h : KX σ s b B n kk k t m r fI fB fL p0 p5 fs ws os) (hk : 12 * b ≤ kk ∧ kk < 12 * b + 12) (hc : lK c0 = true) : KX σ (sL s c0 kk 0 v) b B n kk k t m r fI fB (fun c => if c = c0 then v else fL c) p0 p5 fs ws os := sorry
theorem KX.h0 {q : Nat} (h : KX σ s b B n kk k t m r fI fB fL p0 p5 fs ws os) (hk : 12 * b ≤ kk ∧ kk < 12 * b + 12) : KX σ (sI s 1125 kk 0 (nI q)) b B n kk k t m r fI fB fL (q + 1) p5 fs ws os := sorry
theorem KX.h5 {q : Nat} (h : KX σ s b B n kk k t m r fI fB fL p0 p5 fs ws os) (hk : 12 * b ≤ kk ∧ kk < 12 * b + 12) : KX σ (sI s 1125 kk 5 (nI q)) b B n kk k t m r fI fB fL p0 (q + 1) fs ws os := sorry
/-- a row is laid: all else of the class is kept -/
theorem KX.rw {t' r' fa : Nat} {fs' ws' os' : List Nat} (h : KX σ s b B n kk k t m r fI fB fL p0 p5 fs ws os) (hfa : fa = 1108 ∨ fa = 1111 ∨ fa = 1113) (hF : Fl (pRw b kk fa) s u) (hL : LT u b B n t' 0 m r') (hH : KH u (yTok B n) kk p0 p5 fs' ws' os') : KX σ u b B n kk k t' m r' fI fB fL p0 p5 fs' ws' os' := sorry
end KX
def f0I (k : Nat) (v : Int32) (c : Nat) : Int32 := if c = 1127 then nI k else if c = 1101 then v else if c = 1121 then -2 else if c = 1122 then -2 else if c = 1124 then -2 else if c = 1128 then -2 else 0
def f0L (c : Nat) : Int64 := if c = 1107 then 6927257 else 0
section SPX
variable {l : Launch} {G : Gl}
theorem sp_X10_more (hG : GOK G) {σ0 σ : Sg} {d b n t m r k : Nat} {B : Nat → Nat} (hd : 2 ≤ d) (hL : LT σ b B n t 0 m r) (hP : Pn σ) (hF : Fl (pU b) σ0 σ) (h07 : σ0.I 2007 b 0 = nI k) (hk : k < 12) : CT l G yX10_more (ws_ yX10_more cX10_more 2 (some (.object "LinkHouse$Kind"))) d [.ref (G.adr 10 b)] σ (rR G 1 (some (12 * b + k)) (fun s => KX σ0 s b B n (12 * b + k) k t m r (f0I k (s.I 1101 (12 * b + k) 0)) (fun _ => false) f0L 0 0 [] [] [])) := sorry
end SPX
