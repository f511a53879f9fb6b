/-! Judging, the model: all bodies of a build. -/
/-- only nodes at places from pa on, below pe -/
def FrY (σ s : Sg) (qm b pa pe : Nat) : Prop := FJ (pBy qm) σ s ∧ ∀ X, ¬ (b * 1700 ≤ X ∧ X < b * 1700 + 1700 ∧ pa ≤ plA σ X ∧ plA σ X < pe) → AnM σ s X
theorem by_ptr {σ s : Sg} {qm : Nat} (hF : FJ (pBy qm) σ s) : ∀ c X, c = 2177 ∨ c = 2178 ∨ c = 2180 → s.I c 0 X = σ.I c 0 X := sorry
theorem NdT.by {σ s : Sg} {T : Nat → Tk} {b : Lb} {X qm : Nat} (h : NdT σ T b X) (hF : FJ (pBy qm) σ s) : NdT s T b X := sorry
theorem NdC.by {σ s : Sg} {T : Nat → Tk} {b : Lb} {X qm : Nat} (h : NdC σ T b X) (hF : FJ (pBy qm) σ s) (hA : AnM σ s X) : NdC s T b X := sorry
theorem NdA.by {τ σ s : Sg} {T : Nat → Tk} {b : Lb} {X qm : Nat} (h : NdA τ σ T b X) (hF : FJ (pBy qm) σ s) (hA : AnM σ s X) : NdA τ s T b X := sorry
/-- a tree that is not judged yet, when other S's were -/
theorem MTg.yc {σ s : Sg} {qm b m w a e lo hi pa pe L n : Nat} {B : Nat → Nat} {x : Tr} {v : Int32} (hb : b < 16) (hB : BOK B n) (hN : NEt (yTok B n) L) (he : e ≤ L) (hw : wt x m w a e) (hm : m = 4 → ∀ k, v = nI (b * 1700 + k) → k < 1700 → s.I 2179 0 (b * 1700 + k) = σ.I 2179 0 (b * 1700 + k)) (h : MTg σ b (NdC σ (yTok B n)) x lo hi v) (hF : FrY σ s qm b pa pe) (hd : pe ≤ (yTok B n a).2.2.1 ∨ (yTok B n e).2.2.1 ≤ pa) : MTg s b (NdC s (yTok B n)) x lo hi v := sorry
/-- a tree that was judged, when other S's are -/
theorem MTg.ya {τ σ s : Sg} {qm b m w a e lo hi pa pe L n : Nat} {B : Nat → Nat} {x : Tr} {v : Int32} (hb : b < 16) (hB : BOK B n) (hN : NEt (yTok B n) L) (he : e ≤ L) (hw : wt x m w a e) (hm : m = 4 → ∀ k, v = nI (b * 1700 + k) → k < 1700 → s.I 2179 0 (b * 1700 + k) = σ.I 2179 0 (b * 1700 + k)) (h : MTg σ b (NdA τ σ (yTok B n)) x lo hi v) (hF : FrY σ s qm b pa pe) (hd : pe ≤ (yTok B n a).2.2.1 ∨ (yTok B n e).2.2.1 ≤ pa) : MTg s b (NdA τ s (yTok B n)) x lo hi v := sorry
/-- the shape of a member's body -/
def WtB (τ : Sg) (m : Nat) (x : Tr) (a e : Nat) : Prop := (τ.I 1200 m 0 = 0 → x = .leaf ∨ ∃ w, wt x 0 w a e) ∧ (¬ τ.I 1200 m 0 = 0 → x = .leaf ∨ (kdO x = 30 ∧ ∃ w, wt x 2 w a e))
theorem BdH.wt {τ u : Sg} {B : Nat → Nat} {n L b k m : Nat} {x : Tr} {a e : Nat} (h : BdH τ u B n L b k m x a e) : WtB τ m x a e := sorry
theorem bd_wt {τ : Sg} {k m a e : Nat} {x : Tr} {p : Tr × Lcs × Nat} (hW : WtB τ m x a e) (h : bdJ τ k m x = .ok p) : p.1 = .leaf ∨ ∃ w, wt p.1 (if τ.I 1200 m 0 = 0 then 0 else 2) w a e := sorry
/-- a member's body is judged -/
def BdD (τ s : Sg) (T : Nat → Tk) (b k m : Nat) (x : Tr) : Prop := ∀ p, bdJ τ k m x = .ok p → MTg s b (NdA τ s T) p.1 0 1700 (if τ.I 1200 m 0 = 0 then s.I 2160 0 (mM m) else s.I 2161 0 (mM m)) ∧ s.I 2168 0 (mM m) = nI (bMx τ m x)
theorem BdH.keep {τ u s : Sg} {B : Nat → Nat} {n L b k m qm pa pe : Nat} {x : Tr} {a e : Nat} (h : BdH τ u B n L b k m x a e) (hF : FrY u s qm b pa pe) (hm : ¬ mM m = qm) (hd : pe ≤ (yTok B n a).2.2.1 ∨ (yTok B n e).2.2.1 ≤ pa) : BdH τ s B n L b k m x a e := sorry
theorem BdD.keep {τ u s : Sg} {B : Nat → Nat} {n L b k m qm pa pe : Nat} {x : Tr} {a e : Nat} (hB : BOK B n) (hNE : NEt (yTok B n) L) (hb : b < 16) (heL : e ≤ L) (hW : WtB τ m x a e) (h : BdD τ u (yTok B n) b k m x) (hF : FrY u s qm b pa pe) (hm : ¬ mM m = qm) (hd : pe ≤ (yTok B n a).2.2.1 ∨ (yTok B n e).2.2.1 ≤ pa) : BdD τ s (yTok B n) b k m x := sorry
noncomputable def bdF (τ : Sg) (b : Nat) (tr : Nat → Nat → Tr) (i j : Nat) : PR Unit := if τ.B 1206 (33 * (12 * b + i) + j) 0 = true then .ok () else bnd (bdJ τ (12 * b + i) (33 * (12 * b + i) + j) (tr i j)) fun _ => .ok ()
noncomputable def bdC (τ : Sg) (b : Nat) (tr : Nat → Nat → Tr) (i : Nat) : PR Unit := jFor (bdF τ b tr i) (nMe τ (12 * b + i)) 0
/-- all bodies of a build -/
noncomputable def bdA (τ : Sg) (b : Nat) (tr : Nat → Nat → Tr) (nk : Nat) : PR Unit := jFor (bdC τ b tr) nk 0
def pBz (b c j : Nat) : Bool := decide ((2119 < c ∧ c ≤ 2121) ∨ (2192 < c ∧ c ≤ 2198) ∨ (2206 < c ∧ c ≤ 2217) ∨ c = 2176 ∨ c = 2179 ∨ (2180 < c ∧ c ≤ 2186) ∨ (c = 2168 ∧ 408 * b ≤ j ∧ j < 408 * b + 408))
theorem pBz_iff {b c j : Nat} : pBz b c j = true ↔ ((2119 < c ∧ c ≤ 2121) ∨ (2192 < c ∧ c ≤ 2198) ∨ (2206 < c ∧ c ≤ 2217) ∨ c = 2176 ∨ c = 2179 ∨ (2180 < c ∧ c ≤ 2186) ∨ (c = 2168 ∧ 408 * b ≤ j ∧ j < 408 * b + 408)) := sorry
theorem pBz_no {b c j : Nat} (h : ¬ ((2119 < c ∧ c ≤ 2121) ∨ (2192 < c ∧ c ≤ 2198) ∨ (2206 < c ∧ c ≤ 2217) ∨ c = 2176 ∨ c = 2179 ∨ (2180 < c ∧ c ≤ 2186) ∨ (c = 2168 ∧ 408 * b ≤ j ∧ j < 408 * b + 408))) : pBz b c j = false := sorry
theorem pBy_pBz {qm b : Nat} (h : 408 * b ≤ qm ∧ qm < 408 * b + 408) : ∀ c j, pBy qm c j = true → pBz b c j = true := sorry
/-- what judging bodies keeps; the cells of bridges -/
def FBz (τ : Sg) (b nk : Nat) (u0 s : Sg) : Prop := FJ (pBz b) u0 s ∧ (∀ X, ¬ (b * 1700 ≤ X ∧ X < b * 1700 + 1700) → AnM u0 s X) ∧ ∀ i j, i < nk → j < nMe τ (12 * b + i) → τ.B 1206 (33 * (12 * b + i) + j) 0 = true → s.I 2168 0 (34 * (12 * b + i) + j) = u0.I 2168 0 (34 * (12 * b + i) + j)
/-- which members are judged -/
def BdV (τ u : Sg) (B : Nat → Nat) (n L b nk : Nat) (tr : Nat → Nat → Tr) (A E : Nat → Nat → Nat) (i j : Nat) : Prop := ∀ i' j', i' < nk → j' < nMe τ (12 * b + i') → τ.B 1206 (33 * (12 * b + i') + j') 0 = false → ((i' < i ∨ (i' = i ∧ j' < j)) → BdD τ u (yTok B n) b (12 * b + i') (33 * (12 * b + i') + j') (tr i' j')) ∧ (¬ (i' < i ∨ (i' = i ∧ j' < j)) → BdH τ u B n L b (12 * b + i') (33 * (12 * b + i') + j') (tr i' j') (A i' j') (E i' j'))
section SPX
variable {l : Launch} {G : Gl} {d : Nat} {τ u0 : Sg} {b nk n L : Nat} {B : Nat → Nat} {tr : Nat → Nat → Tr} {A E : Nat → Nat → Nat}
theorem sp_X11_bodies (hG : GOK G) (hd : 1512 ≤ d) (hB : BOK B n) (hNE : NEt (yTok B n) L) (hb : b < 16) (hnk : nk ≤ 12) (h19 : u0.I 2119 0 0 = nI b) (h23 : u0.I 2123 0 b = nI nk) (hI : SIv u0) (hq : u0.I 2120 0 0 = nI 0) (hU : ∀ i, i < nk → JgU τ u0 (12 * b + i)) (hH : ∀ i j, i < nk → j < nMe τ (12 * b + i) → τ.B 1206 (33 * (12 * b + i) + j) 0 = false → BdH τ u0 B n L b (12 * b + i) (33 * (12 * b + i) + j) (tr i j) (A i j) (E i j)) (hdis : ∀ i j i' j', ¬ (i = i' ∧ j = j') → i < nk → i' < nk → j < nMe τ (12 * b + i) → j' < nMe τ (12 * b + i') → E i j ≤ A i' j' ∨ E i' j' ≤ A i j) : CT l G yX11_bodies (ws_ yX11_bodies cX11_bodies 4 none) d [.ref (G.adr 11 0)] u0 (rV (fun s => FBz τ b nk u0 s ∧ SIv s ∧ FLq s (yTok B n) (bdA τ b tr nk) ∧ (bdA τ b tr nk = .ok () → ∀ i j, i < nk → j < nMe τ (12 * b + i) → τ.B 1206 (33 * (12 * b + i) + j) 0 = false → BdD τ s (yTok B n) b (12 * b + i) (33 * (12 * b + i) + j) (tr i j)))) := sorry
end SPX
