/-! THE HOUSE: uses are asked for what they meet, both programs at rest. -/
section RSA
variable {σ : Sg} {st : LSt}
/-- a use of any sort -/
theorem rsR_all (hW : WOK σ 0) (hN : WNO σ) {u b v : Nat} (h1 : 1 ≤ v) (h2 : v ≤ 19) (ev : σ.I 1700 u 0 = nI v) (hb : b ∈ wKs σ 0) (hL : LOK st) (hC : LCL σ st) : LGo σ st (rsR σ u b st).2.1 ∧ ∃ n, n ≤ 17 ∧ (rsR σ u b st).1 = nI n := sorry
end RSA
/-- the model's machine is as it was -/
def MKp (s t : Sg) : Prop := (∀ j, j < 64 → t.I 2232 0 j = s.I 2232 0 j ∧ t.I 2233 0 j = s.I 2233 0 j) ∧ t.I 2234 0 0 = s.I 2234 0 0 ∧ (∀ j, t.I 2235 0 j = s.I 2235 0 j) ∧ t.I 2236 0 0 = s.I 2236 0 0 ∧ t.B 2192 0 0 = s.B 2192 0 0 ∧ ∀ c j, 2247 < c → c ≤ 2273 → t.I c 0 j = s.I c 0 j
theorem MKp.refl {s : Sg} : MKp s s := sorry
theorem MKp.trans {s t u : Sg} (h : MKp s t) (k : MKp t u) : MKp s u := sorry
theorem MKp.fl {p : Nat → Nat → Bool} {s t : Sg} (hF : Fl p s t) (h : ∀ c, (2191 < c ∧ c ≤ 2192) ∨ (2231 < c ∧ c ≤ 2236) ∨ (2247 < c ∧ c ≤ 2273) → p c 0 = false) : MKp s t := sorry
section FOR
variable {l : Launch} {G : Gl} {d n b v lib k : Nat} {s t u : Sg} {P : Pg} {M : MSt} {p : Nat → Nat → Bool}
/-- the machines stay -/
theorem MaI.kp (h : MaI s M n) (hF : Fl p s t) (hp : ∀ c i, sc c = true → p c i = false) (hq : (∀ c, 1800 < c → c ≤ 1803 → p c 1 = false) ∧ ∀ c, 1901 < c → c ≤ 1912 → p c 0 = false) (hK : MKp s t) (hS : SIv t) : MaI t M n := sorry
/-- what the worlds' uses ask is the same -/
theorem hRs_fl (hF : Fl p s t) (hp : ∀ c i, sc c = true → p c i = false) (x : Nat) : hRs t x = hRs s x ∧ uBy t x = uBy s x := sorry
/-- what was met last stays while the model asks -/
theorem FoI.fq (h : FoI s) (hs : Shp s) (hF : FQm s t) : FoI t := sorry
/-- THE MODEL foretells -/
theorem sp_fore (hG : GOK G) (hd : 145 ≤ d) (h : WrI s P) (hS : SIv s) (b1 : b < hN s) (v1 : v < hUs s b) (hin : ¬ s.I 1128 (uBy s (1000 * b + v)) 0 = -2) : CT l G yX11_foretell (ws_ yX11_foretell cX11_foretell 4 (some .int)) d [.ref (G.adr 11 0), .int (nI (1800 * b + v))] s (rI (hRs s (1000 * b + v)).1 (fun t => WrI t P ∧ SIv t ∧ Fl pQe s t ∧ MKp s t ∧ (FoI s → FoI t))) := sorry
/-- THE MODEL asks whether a copy is stale -/
theorem sp_stl (hG : GOK G) (hd : 6 ≤ d) (h : WrI s P) (hS : SIv s) (b1 : b < hN s) (v1 : v < hUs s b) (h16 : s.I 1700 (1000 * b + v) 0 = 16) (hin : ¬ s.I 1128 (uBy s (1000 * b + v)) 0 = -2) : CT l G yX11_isStale (ws_ yX11_isStale cX11_isStale 4 (some .boolean)) d [.ref (G.adr 11 0), .int (nI (1800 * b + v))] s (rZ (!decide ((hRs s (1000 * b + v)).1 = 0)) (fun t => WrI t P ∧ SIv t ∧ Fl pQe s t ∧ MKp s t ∧ (FoI s → FoI t))) := sorry
end FOR
