/-! Judging: a member's body, in plain terms; the model judges it so. -/
/-- a maker's body begins by super( ) -/
def tlS : Tr → Bool
  | .inner _ _ _ (.inner _ _ _ f _) _ => kdO f == 38
  | _ => false
def bSt (τ : Sg) (m : Nat) : Bool := τ.B 1203 m 0 || decide (τ.I 1200 m 0 = 3)
def bSn (τ : Sg) (m : Nat) : Nat := if bSt τ m = true then 0 else 1
/-- where a member is told, or its class -/
def bAt (τ : Sg) (k m : Nat) : Nat := if τ.I 1214 m 0 = (-2) then tkN (τ.I 1124 k 0) else tkN (τ.I 1214 m 0)
/-- params become locals -/
def pmK (τ : Sg) (m : Nat) : Nat → Nat → Lcs → Nat → PR (Lcs × Nat)
  | 0, _, Lc, sn => .ok (Lc, sn)
  | p + 1, i, Lc, sn => bnd (ckW Lc (τ.L 1210 m i) (tkN (τ.I 1211 m i) + 1)) fun _ => pmK τ m p (i + 1) (Lc ++ [(τ.L 1210 m i, τ.L 1209 m i, sn)]) (sn + 1)
/-- the maker above, where no super( ) tells it -/
noncomputable def bMk (τ : Sg) (k m : Nat) (x : Tr) : PR Unit := if τ.I 1200 m 0 = 2 ∧ tlS x = false then (match jMkO τ k (wPar τ 1 k) [] with
  | none => .error (18, bAt τ k m)
  | some _ => .ok ()) else .ok ()
noncomputable def bS0 (τ : Sg) (k m : Nat) (x : Tr) (q : Lcs × Nat) : PR (Tr × Lcs × Nat) := if isLf x = true then .ok (.leaf, q.1, q.2) else ckS τ k (bSt τ m) (τ.I 1200 m 0) (τ.L 1207 m 0) x 2 q.1 q.2
def bEd (τ : Sg) (k m : Nat) (x : Tr) : PR Unit := ckP (!(decide (τ.I 1200 m 0 = 1) && (!decide (τ.L 1207 m 0 = 0) && (!isLf x && ckD x)))) 17 (bAt τ k m)
/-- a member's body -/
noncomputable def bdJ (τ : Sg) (k m : Nat) (x : Tr) : PR (Tr × Lcs × Nat) :=
  if τ.I 1200 m 0 = 0 then (if isLf x = true then .ok (.leaf, [], 0) else bnd (ckE τ k (bSt τ m) [] x) fun x' => bnd (ckP (wFits τ 1 (tyO x') (τ.L 1207 m 0)) 13 (trT x)) fun _ => .ok (x', [], bSn τ m))
  else bnd (pmK τ m (nPa τ m) 0 [] (bSn τ m)) fun q => bnd (bMk τ k m x) fun _ => bnd (bS0 τ k m x q) fun p => bnd (bEd τ k m x) fun _ => .ok p
/-- most locals of a member, in the model -/
def bMx (τ : Sg) (m : Nat) (x : Tr) : Nat := if τ.I 1200 m 0 = 0 then 0 else max (nPa τ m) (mxL x (nPa τ m))
/-- what must be known of the classes' members -/
def JMs (τ : Sg) (k : Nat) : Prop := PmA τ ∧ (∀ x, x ∈ wKs τ 1 → MkP τ x) ∧ ((∀ m, LivU τ (wKs τ 1) m → ¬ τ.L 1207 m 0 = 2) ∧ ∀ c, c ∈ wKs τ 1 → τ.B 1104 c 0 = true → τ.B 1105 c 0 = false) ∧ ∀ x nm ts, x ∈ wKs τ 1 → (jCds τ k x nm ts).length ≤ 432
/-- a member whose body is to be judged; its tokens -/
def BdH (τ u : Sg) (B : Nat → Nat) (n L b k m : Nat) (x : Tr) (a e : Nat) : Prop := (BOK B n ∧ NEt (yTok B n) L ∧ b < 16 ∧ e ≤ L ∧ L ≤ 702) ∧ JgU τ u k ∧ JMs τ k ∧ LivU τ (wKs τ 1) m ∧ u.I 2168 0 (mM m) = nI 0 ∧ (∀ i, i < nPa τ m → u.L 2158 0 (4 * mM m + i) = τ.L 1210 m i ∧ u.I 2159 0 (4 * mM m + i) = nI (yTok B n (tkN (τ.I 1211 m i) + 1)).2.2.1) ∧ u.I 2152 0 (mM m) = nI (yTok B n (bAt τ k m)).2.2.1 ∧ (τ.I 1200 m 0 = 0 → MTg u b (NdC u (yTok B n)) x 0 1700 (u.I 2160 0 (mM m)) ∧ (x = .leaf ∨ ∃ w, wt x 0 w a e)) ∧ (¬ τ.I 1200 m 0 = 0 → MTg u b (NdC u (yTok B n)) x 0 1700 (u.I 2161 0 (mM m)) ∧ (x = .leaf ∨ (kdO x = 30 ∧ ∃ w, wt x 2 w a e))) ∧ nmT (yTok B n) L x ∧ lbg x ∧ (τ.I 1200 m 0 = 2 → ¬ wPar τ 1 k = none)
/-- the columns of judging a body -/
def pBy (qm c j : Nat) : Bool := pJs qm c j || rg 2208 2211 c
theorem pBy_iff {qm c j : Nat} : pBy qm c j = true ↔ (pJs qm c j = true ∨ (2208 < c ∧ c ≤ 2211)) := sorry
theorem pBy_no {qm c j : Nat} (h : ¬ ((2119 < c ∧ c ≤ 2121) ∨ (2192 < c ∧ c ≤ 2198) ∨ (2206 < c ∧ c ≤ 2217) ∨ c = 2176 ∨ c = 2179 ∨ (2180 < c ∧ c ≤ 2186) ∨ (c = 2168 ∧ j = qm))) : pBy qm c j = false := sorry
theorem pJs_pBy {qm : Nat} : ∀ c j, pJs qm c j = true → pBy qm c j = true := sorry
def pB0 (c _j : Nat) : Bool := decide ((2207 < c ∧ c ≤ 2211) ∨ c = 2214)
theorem pB0_iff {c j : Nat} : pB0 c j = true ↔ ((2207 < c ∧ c ≤ 2211) ∨ c = 2214) := sorry
theorem pB0_no {c j : Nat} (h : ¬ ((2207 < c ∧ c ≤ 2211) ∨ c = 2214)) : pB0 c j = false := sorry
/-- what judging a body leaves -/
def RB (τ u s : Sg) (B : Nat → Nat) (n b k m : Nat) (x : Tr) (a e : Nat) : Prop := FJ (pBy (mM m)) u s ∧ (∀ X, ¬ (b * 1700 ≤ X ∧ X < b * 1700 + 1700 ∧ (yTok B n a).2.2.1 ≤ plA u X ∧ plA u X < (yTok B n e).2.2.1) → AnM u s X) ∧ SIv s ∧ FLq s (yTok B n) (bdJ τ k m x) ∧ ∀ p, bdJ τ k m x = .ok p → MTg s b (NdA τ s (yTok B n)) p.1 0 1700 (if τ.I 1200 m 0 = 0 then u.I 2160 0 (mM m) else u.I 2161 0 (mM m)) ∧ s.I 2168 0 (mM m) = nI (bMx τ m x)
section SPX
variable {l : Launch} {G : Gl} {d : Nat} {τ u : Sg} {b k m n L : Nat} {B : Nat → Nat}
theorem sj_begins (hG : GOK G) {N : Lb → Nat → Prop} {qm lo hi a e : Nat} {x : Tr} {x1 : Int32} (hd : 1 ≤ d) (hb : b < 16) (hN : ∀ bb X, N bb X → u.I 2170 0 X = nI (mNk bb.1)) (hqm : qm < 7344) (hM : MTg u b N x lo hi (u.I 2161 0 qm)) (hx : x = .leaf ∨ (kdO x = 30 ∧ ∃ w, wt x 2 w a e)) (e1 : x1 = nI qm) : CT l G yX11_beginsBySuper (ws_ yX11_beginsBySuper cX11_beginsBySuper 3 (some .boolean)) d [.ref (G.adr 11 0), .int x1] u (rZ (tlS x) (fun s => s = u)) := sorry
set_option maxHeartbeats 1000000 in
theorem sj_bodyOf (hG : GOK G) {x : Tr} {a e : Nat} (hd : 1510 ≤ d) (hH : BdH τ u B n L b k m x a e) (hI : SIv u) (hq : u.I 2120 0 0 = nI 0) {x1 x2 : Int32} (e1 : x1 = nI (cM k)) (e2 : x2 = nI (mM m)) : CT l G yX11_bodyOf (ws_ yX11_bodyOf cX11_bodyOf 4 none) d [.ref (G.adr 11 0), .int x1, .int x2] u (rV (fun s => RB τ u s B n b k m x a e)) := sorry
end SPX
