/-! Judging, LinkHouse: new members (the given maker, bridges). -/
/-- the columns of a new member q of class kk -/
def pNm (kk q c i : Nat) : Bool := (rg 1199 1222 c && Nat.beq i q) || (rg 1116 1118 c && Nat.beq i kk)
theorem pNm_q {kk q c : Nat} (h : 1199 < c ∧ c ≤ 1222) : pNm kk q c q = true := sorry
theorem pNm_k {kk q c : Nat} (h : 1116 < c ∧ c ≤ 1118) : pNm kk q c kk = true := sorry
theorem pNm_no {kk q c i : Nat} (h : ¬ (1199 < c ∧ c ≤ 1222 ∧ i = q) ∧ ¬ (1116 < c ∧ c ≤ 1118 ∧ i = kk)) : pNm kk q c i = false := sorry
theorem pNm_pJ {b kk q : Nat} (hk : 12 * b ≤ kk ∧ kk < 12 * b + 12) (hq : 396 * b ≤ q ∧ q < 396 * b + 396) : ∀ c i, pNm kk q c i = true → pJ b c i = true := sorry
/-- the columns of a member that was not told -/
def nwI (so a p : Int32) (c : Nat) : Int32 := if c = 1208 then p else if c = 1202 then a else if c = 1200 then so else if c = 1213 ∨ c = 1220 then 0 else -2
def nwB (st br : Bool) (c : Nat) : Bool := if c = 1203 then st else if c = 1206 then br else false
def nwL (nm ty : Int64) (c : Nat) : Int64 := if c = 1201 then nm else ty
section SPX
variable {l : Launch} {G : Gl} {d : Nat}
theorem sp_more2 (hG : GOK G) {σ : Sg} {kk nm : Nat} (hd : 2 ≤ d) (hkk : kk < 194) (h17 : σ.I 1117 kk 0 = nI nm) (hn : nm < 33) : CT l G yX1_more (ws_ yX1_more cX1_more 2 (some (.object "LinkHouse$Member"))) d [.ref (G.adr 1 kk)] σ (rR G 2 (some (33 * kk + nm)) (fun s => Fl (pNm kk (33 * kk + nm)) σ s ∧ s.I 1117 kk 0 = nI (nm + 1) ∧ s.I 1118 kk 0 = σ.I 1118 kk 0 ∧ MB s (33 * kk + nm) kk (fI0 (s.I 1200 (33 * kk + nm) 0)) (fun _ => false) (fun _ => 0) (-2) (-2) (-2))) := sorry
/-- the given maker -/
theorem sp_X6_defaultMaker (hG : GOK G) {σ : Sg} {kk nm : Nat} (hd : 3 ≤ d) (hS : Shp σ) (hkk : kk < 194) (h603 : σ.R 1603 0 0 = some kk) (h17 : σ.I 1117 kk 0 = nI nm) (hn : nm < 33) : CT l G yX6_defaultMaker (ws_ yX6_defaultMaker cX6_defaultMaker 2 none) d [.ref (G.adr 6 0)] σ (rV (fun s => if σ.B 1102 kk 0 = true ∨ kHMk σ kk = true then s = σ else Fl (pNm kk (33 * kk + nm)) σ s ∧ s.I 1117 kk 0 = nI (nm + 1) ∧ s.I 1118 kk 0 = σ.I 1118 kk 0 ∧ MB s (33 * kk + nm) kk (nwI 2 (if σ.B 1103 kk 0 = true then 3 else 1) 0) (nwB false false) (nwL 0 0) (-2) (-2) (-2))) := sorry
/-- a bridge from m, of result t -/
theorem sp_X6_bridge (hG : GOK G) {σ : Sg} {kk nm m cb : Nat} {t : Int64} (hd : 3 ≤ d) (hS : Shp σ) (hkk : kk < 194) (h17 : σ.I 1117 kk 0 = nI nm) (hn : nm < 33) (h18 : σ.I 1118 kk 0 = nI cb) (hm : m < cnt 2) (hmq : ¬ m = 33 * kk + nm) : CT l G yX6_bridge (ws_ yX6_bridge cX6_bridge 6 (some (.object "LinkHouse$Member"))) d [rv G 1 (some kk), rv G 2 (some m), .long t] σ (rR G 2 (some (33 * kk + nm)) (fun s => Fl (pNm kk (33 * kk + nm)) σ s ∧ s.I 1117 kk 0 = nI (nm + 1) ∧ s.I 1118 kk 0 = nI (cb + 1) ∧ MB s (33 * kk + nm) kk (nwI 1 (σ.I 1202 m 0) (σ.I 1208 m 0)) (nwB (σ.B 1203 m 0) true) (nwL (σ.L 1201 m 0) t) (-2) (-2) (-2) ∧ ∀ i, i < nPa σ m → s.L 1209 (33 * kk + nm) i = σ.L 1209 m i)) := sorry
end SPX
