/-! LinkHouse reads a class: the whole. -/
theorem pRw_no {b kk fa c : Nat} (h1 : 1099 < c ∧ c ≤ 1222) (h2 : c ≠ 1125) (h3 : c ≠ fa) : pRw b kk fa c kk = false := sorry
theorem KH.row13 {s u : Sg} {T : Nat → Tk} {b kk p0 p5 : Nat} {fs ws os zs : List Nat} (h : KH s T kk p0 p5 fs ws os) (hF : Fl (pRw b kk 1113) s u) (hR : RwP s u T kk 1113 14 0 zs) (hl : zs.length ≤ 8) : KH u T kk p0 p5 fs ws zs := sorry
theorem KH.row11 {s u : Sg} {T : Nat → Tk} {b kk p0 p5 : Nat} {fs ws os zs : List Nat} (h : KH s T kk p0 p5 fs ws os) (hF : Fl (pRw b kk 1111) s u) (hR : RwP s u T kk 1111 6 0 zs) (hl : zs.length ≤ 8) : KH u T kk p0 p5 fs zs os := sorry
theorem KH.row8 {s u : Sg} {T : Nat → Tk} {b kk p0 p5 : Nat} {fs ws os zs : List Nat} (h : KH s T kk p0 p5 fs ws os) (hF : Fl (pRw b kk 1108) s u) (hR : RwP s u T kk 1108 1 0 zs) (hl : zs.length ≤ 4) : KH u T kk p0 p5 zs ws os := sorry
section SPX
variable {l : Launch} {G : Gl}
theorem lx_kind (hG : GOK G) {σ : Sg} {d b n t m r k f : Nat} {B : Nat → Nat} (hd : 200 ≤ d) (h : LT σ b B n t 0 m r) (hP : Pn σ) (hm : m ≤ t) (h07 : σ.I 2007 b 0 = nI k) (hk : k ≤ 12) (hf : 12 * 701 + 7 ≤ f) : CT l G yX5_kind (ws_ yX5_kind cX5_kind 9 none) d [.ref (G.adr 5 0)] σ (oC G b (yTok B n) σ (pKl (yTok B n) f k t) (fun z o s => o = .returned none ∧ k < 12 ∧ KiP σ s b B n (12 * b + k) k t m z)) := sorry
end SPX
