/-! THE INVARIANT of both houses. -/
/-- tapes -/
def TpI (s : Sg) : Prop := ∃ n, n ≤ 4000 ∧ s.I 1001 0 0 = nI n ∧ s.I 2101 0 0 = nI n ∧ ∀ k, k < n → (∃ v, v < 256 ∧ s.I 2100 0 k = nI v ∧ s.I 1000 0 k = (nI v).toInt8.toInt32)
/-- OUT -/
def OtI (s : Sg) : Prop := ∃ n, n ≤ 1000 ∧ s.I 1003 0 0 = nI n ∧ s.I 2103 0 0 = nI n ∧ ∀ k, k < n → s.I 1002 0 k &&& 255 = s.I 2102 0 k
/-- rows that were told last -/
def TdI (s : Sg) (c1 c2 c3 c4 w N : Nat) : Prop := ∃ n, n ≤ N ∧ s.I c1 0 0 = nI n ∧ s.I c2 0 0 = nI n ∧ ∀ k, k < w * n → s.I c3 0 k = s.I c4 0 k
/-- what was met last -/
def FoI (s : Sg) : Prop := (s.R 1021 0 0 = none ∧ s.I 2237 0 0 = -2) ∨ ∃ k j so, k < 194 ∧ j < nMe s k ∧ s.R 1021 0 0 = some (33 * k + j) ∧ s.I 2237 0 0 = nI (34 * cM k + j) ∧ s.I 1022 0 0 = nI so ∧ MM s s (33 * k + j) (34 * cM k + j) ∧ MK1 s s k ∧ s.R 1222 (33 * k + j) 0 = some k ∧ ((so = 2 ∧ s.I 1200 (33 * k + j) 0 = 2) ∨ (3 ≤ so ∧ so ≤ 6 ∧ s.I 1200 (33 * k + j) 0 = 0) ∨ (7 ≤ so ∧ so ≤ 12 ∧ s.I 1200 (33 * k + j) 0 = 1))
def OuI (s : Sg) : Prop := (TpI s ∧ OtI s) ∧ (s.I 1020 0 0 = s.I 2228 0 0 ∧ s.I 1914 0 0 = s.I 2267 0 0) ∧ (TdI s 1024 2239 1023 2238 1 132 ∧ TdI s 1026 2245 1025 2244 3 5000 ∧ TdI s 1028 2275 1027 2274 5 4000) ∧ FoI s ∧ (∀ k, k < 30 → s.L 1501 0 k = lN (yWs.getD k 0)) ∧ s.I 2118 0 0 = nI 30 ∧ ∀ k, k < 30 → s.L 2117 0 k = lN (yWm.getD k 0)
/-- the machines -/
def MaI (s : Sg) (M : MSt) (n : Nat) : Prop := MRm s M ∧ MMm s s M ∧ MInv s M ∧ SIv s ∧ ∃ m, m ≤ n ∧ FSs s m
/-- the invariant behind n calls -/
def INV (s : Sg) (n : Nat) : Prop := ∃ P M, WrI s P ∧ MaI s M (64 * n) ∧ OuI s
section INF
variable {s t : Sg} {p : Nat → Nat → Bool}
theorem TpI.fl (h : TpI s) (hF : Fl p s t) (h1 : p 1000 0 = false ∧ p 1001 0 = false ∧ p 2100 0 = false ∧ p 2101 0 = false) : TpI t := sorry
theorem OtI.fl (h : OtI s) (hF : Fl p s t) (h1 : p 1002 0 = false ∧ p 1003 0 = false ∧ p 2102 0 = false ∧ p 2103 0 = false) : OtI t := sorry
theorem TdI.fl {c1 c2 c3 c4 w N : Nat} (h : TdI s c1 c2 c3 c4 w N) (hF : Fl p s t) (h1 : p c1 0 = false ∧ p c2 0 = false ∧ p c3 0 = false ∧ p c4 0 = false) : TdI t c1 c2 c3 c4 w N := sorry
theorem FoI.fl (h : FoI s) (hs : Shp s) (hF : Fl p s t) (h1 : p 1021 0 = false ∧ p 1022 0 = false ∧ p 2237 0 = false) (hp : ∀ c i, bKc c = true → p c i = false) : FoI t := sorry
theorem SIv.fl (h : SIv s) (hF : Fl p s t) (h1 : p 2193 0 = false ∧ p 2194 0 = false ∧ p 2195 0 = false) : SIv t := sorry
theorem FSs.fl {n : Nat} (h : FSs s n) (hF : Fl p s t) (h1 : p 2270 0 = false ∧ p 2271 0 = false) : FSs t n := sorry
theorem HsT.fl (h : HsT s) (hF : Fl p s t) (h1 : ∀ c, (1004 < c ∧ c ≤ 1007) ∨ (2106 < c ∧ c ≤ 2110) ∨ c = 2191 → p c 0 = false) (hp : ∀ c i, bKc c = true → p c i = false) : HsT t := sorry
end INF
