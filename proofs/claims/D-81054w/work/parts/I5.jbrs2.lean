/-! Judging, LinkHouse: the loop of given makers and bridges. -/
theorem Dn.fl {τ s u : Sg} {c : Nat} {Bs : BrL} {p : Nat → Nat → Bool} (h : Dn τ s c Bs) (hF : Fl p s u) (hT : tmT τ c + Bs.length ≤ 33) (hp : ∀ x, 1116 < x → x ≤ 1118 → p x c = false) (hp2 : ∀ x j, 1199 < x → x ≤ 1222 → j < 33 → p x (33 * c + j) = false) : Dn τ u c Bs := sorry
theorem kHMk_e {τ s : Sg} {c : Nat} (hn : nMe s c = nMe τ c) (h : ∀ j, j < nMe τ c → s.I 1200 (33 * c + j) 0 = τ.I 1200 (33 * c + j) 0) : kHMk s c = kHMk τ c := sorry
/-- a class whose maker is laid, before its bridges -/
def LMk (τ t : Sg) (c : Nat) : Prop := t.I 1117 c 0 = nI (tmT τ c) ∧ t.I 1118 c 0 = 0 ∧ (needM τ c = true → MB t (33 * c + nMe τ c) c (nwI 2 (if τ.B 1103 c 0 = true then 3 else 1) 0) (nwB false false) (nwL 0 0) (-2) (-2) (-2))
section LM
variable {τ s t : Sg} {c : Nat}
theorem LMk.n (h : LMk τ t c) (h20 : nMe τ c ≤ 20) : nMe t c = tmT τ c := sorry
theorem LMk.mk (h : LMk τ t c) (j : Nat) (h1 : nMe τ c ≤ j) (h2 : j < tmT τ c) : j = nMe τ c ∧ t.I 1200 (33 * c + j) 0 = 2 ∧ t.B 1206 (33 * c + j) 0 = false ∧ t.R 1222 (33 * c + j) 0 = some c ∧ t.I 1208 (33 * c + j) 0 = 0 := sorry
theorem ExM.mk (h : ExM τ s) (hF : Fl (pNm c (33 * c + nMe τ c)) s t) (hL : LMk τ t c) (hc : c < 194) (h20 : nMe τ c ≤ 20) (hS : Shp τ) (h33 : ∀ c', c' < 194 → nMe s c' ≤ 33) : ExM τ t := sorry
theorem LMk.bk (h : ExM τ t) (hL : LMk τ t c) (hc : c < 192) (h20 : nMe τ c ≤ 20) (hSt : Shp t) (hWt : WOK t 1) (hUq : UqM τ c) (hbr : ∀ j, j < nMe τ c → τ.B 1206 (33 * c + j) 0 = false) : BK t c (tmT τ c) := sorry
end LM
section SPX
variable {l : Launch} {G : Gl} {d : Nat}
/-- the given maker of class c -/
theorem sp_mk (hG : GOK G) {τ s : Sg} {c : Nat} (hd : 3 ≤ d) (hE : ExM τ s) (hS : Shp s) (hc : c < 194) (h20 : nMe τ c ≤ 20) (h603 : s.R 1603 0 0 = some c) (h17 : s.I 1117 c 0 = nI (nMe τ c)) (h18 : s.I 1118 c 0 = 0) : CT l G yX6_defaultMaker (ws_ yX6_defaultMaker cX6_defaultMaker 2 none) d [.ref (G.adr 6 0)] s (rV (fun t => Fl (pNm c (33 * c + nMe τ c)) s t ∧ LMk τ t c ∧ Shp t)) := sorry
end SPX
