/-! THE MODEL JUDGES A BUILD. -/
/-- the columns that judging build b may change -/
def pJb (b c j : Nat) : Bool := decide ((2119 < c ∧ c ≤ 2121) ∨ (2192 < c ∧ c ≤ 2217) ∨ (c = 2141 ∧ 12 * b ≤ j ∧ j < 12 * b + 12) ∨ (2141 < c ∧ c ≤ 2168 ∧ ¬ (2155 < c ∧ c ≤ 2159) ∧ 408 * b ≤ j ∧ j < 408 * b + 408) ∨ (c = 2156 ∧ 1632 * b ≤ j ∧ j < 1632 * b + 1632) ∨ c = 2176 ∨ c = 2179 ∨ (2180 < c ∧ c ≤ 2188) ∨ (c = 2218 ∧ j = b) ∨ (2218 < c ∧ c ≤ 2227 ∧ ¬ c = 2225 ∧ 1800 * b ≤ j ∧ j < 1800 * b + 1800) ∨ (c = 2225 ∧ 7200 * b ≤ j ∧ j < 7200 * b + 7200))
theorem pJb_iff {b c j : Nat} : pJb b c j = true ↔ ((2119 < c ∧ c ≤ 2121) ∨ (2192 < c ∧ c ≤ 2217) ∨ (c = 2141 ∧ 12 * b ≤ j ∧ j < 12 * b + 12) ∨ (2141 < c ∧ c ≤ 2168 ∧ ¬ (2155 < c ∧ c ≤ 2159) ∧ 408 * b ≤ j ∧ j < 408 * b + 408) ∨ (c = 2156 ∧ 1632 * b ≤ j ∧ j < 1632 * b + 1632) ∨ c = 2176 ∨ c = 2179 ∨ (2180 < c ∧ c ≤ 2188) ∨ (c = 2218 ∧ j = b) ∨ (2218 < c ∧ c ≤ 2227 ∧ ¬ c = 2225 ∧ 1800 * b ≤ j ∧ j < 1800 * b + 1800) ∨ (c = 2225 ∧ 7200 * b ≤ j ∧ j < 7200 * b + 7200)) := sorry
/-- the nodes of other builds are kept -/
def NdO (b : Nat) (σ s : Sg) : Prop := ∀ X, ¬ (b * 1700 ≤ X ∧ X < b * 1700 + 1700) → AnM σ s X ∧ s.I 2187 0 X = σ.I 2187 0 X ∧ s.I 2188 0 X = σ.I 2188 0 X
theorem pP5_Jb {τ : Sg} {b nk : Nat} (hnk : nk ≤ 12) : ∀ c j, pP5 τ b nk c j = true → c ≤ 2217 → pJb b c j = true := sorry
theorem pHd_Jb {b : Nat} : ∀ c j, pHd c j = true → pJb b c j = true := sorry
theorem pFt_Jb {b : Nat} : ∀ c j, pFt c j = true → pJb b c j = true := sorry
theorem pAg_Jb {b : Nat} : ∀ c j, pAg c j = true → pJb b c j = true := sorry
theorem pQb_Jb {τ : Sg} {b nk : Nat} (hnk : nk ≤ 12) : ∀ c j, pQb τ b nk c j = true → pJb b c j = true := sorry
theorem pLm_Jb {b : Nat} : ∀ c j, pLm c j = true → pJb b c j = true := sorry
theorem pCm_Jb {b : Nat} : ∀ c j, pCm b c j = true → pJb b c j = true := sorry
theorem pBz_Jb {b : Nat} : ∀ c j, pBz b c j = true → pJb b c j = true := sorry
theorem pUz_Jb {b : Nat} : ∀ c j, pUz b c j = true → pJb b c j = true := sorry
theorem pP5_n {τ : Sg} {b nk c j : Nat} (q : c ≤ 2119 ∨ (2121 < c ∧ c ≤ 2140) ∨ (2168 < c ∧ c ≤ 2192)) : pP5 τ b nk c j = false := sorry
/-- what judging a build leaves in the model, when it is in order -/
def JaD (τ u : Sg) (B : Nat → Nat) (n b : Nat) (cs : List CRc) : Prop := (∀ i, i < cs.length → JgU τ u (12 * b + i)) ∧ (MUt u b (addL [] (ndAl τ b (tgF τ b) (jA τ b (trB cs)) cs.length 0)) ∧ UNd (addL [] (ndAl τ b (tgF τ b) (jA τ b (trB cs)) cs.length 0))) ∧ ∀ i j, i < cs.length → j < nMe τ (12 * b + i) → UmD τ u (yTok B n) b (12 * b + i) (33 * (12 * b + i) + j) (tgF τ b i j) (jA τ b (trB cs) i j) (addL [] (ndAl τ b (tgF τ b) (jA τ b (trB cs)) cs.length 0)) ∧ (τ.B 1206 (33 * (12 * b + i) + j) 0 = false → ∃ w, FZ b w u ∧ BdD τ w (yTok B n) b (12 * b + i) (33 * (12 * b + i) + j) (trB cs i j)) ∧ (τ.B 1206 (33 * (12 * b + i) + j) 0 = true → u.I 2168 0 (34 * (12 * b + i) + j) = nI (nPa τ (33 * (12 * b + i) + j)))
/-- what judging a build leaves -/
def RJa (τ0 τ1 τ2 μ : Sg) (B : Nat → Nat) (n b : Nat) (cs : List CRc) (s : Sg) : Prop := ∃ u, s = sI u 2191 0 0 (-2) ∧ FJ (pJb b) μ u ∧ NdO b μ u ∧ SIv u ∧ FLq u (yTok B n) (pAl τ0 τ1 τ2 b (yTok B n) cs.length (trB cs)) ∧ (pAl τ0 τ1 τ2 b (yTok B n) cs.length (trB cs) = .ok () → JaD (t3 τ2 b cs) u B n b cs)
section SPX
variable {l : Launch} {G : Gl} {d : Nat} {σ μ τ0 τ1 τ2 : Sg} {b n r L : Nat} {B : Nat → Nat} {cs : List CRc}
theorem jt_82 {Q : Outcome → Sg → Prop} {u : Sg} (hQ : Q (.returned none) (sI u 2191 0 0 (-2))) : wq_X11_judgeAll_82 l G d 0 Q u := sorry
theorem jt_71 {Q : Outcome → Sg → Prop} {u : Sg} (h : ¬ u.I 2120 0 0 = 0) (hQ : Q (.returned none) (sI u 2191 0 0 (-2))) : wq_X11_judgeAll_71 l G d 0 Q u := sorry
theorem jt_56 {Q : Outcome → Sg → Prop} {u : Sg} (h : ¬ u.I 2120 0 0 = 0) (hQ : Q (.returned none) (sI u 2191 0 0 (-2))) : wq_X11_judgeAll_56 l G d 0 Q u := sorry
theorem jt_45 {Q : Outcome → Sg → Prop} {u : Sg} (h : ¬ u.I 2120 0 0 = 0) (hQ : Q (.returned none) (sI u 2191 0 0 (-2))) : wq_X11_judgeAll_45 l G d 0 Q u := sorry
theorem jt_34 {Q : Outcome → Sg → Prop} {u : Sg} (h : ¬ u.I 2120 0 0 = 0) (hQ : Q (.returned none) (sI u 2191 0 0 (-2))) : wq_X11_judgeAll_34 l G d 0 Q u := sorry
theorem jt_23 {Q : Outcome → Sg → Prop} {u : Sg} (h : ¬ u.I 2120 0 0 = 0) (hQ : Q (.returned none) (sI u 2191 0 0 (-2))) : wq_X11_judgeAll_23 l G d 0 Q u := sorry
theorem FLq_n0 {u : Sg} {T : Nat → Tk} {α : Type} {w : Nat × Nat} (h : FLq u T (.error w : PR α)) : ¬ u.I 2120 0 0 = 0 := sorry
theorem FLq_k {u : Sg} {T : Nat → Tk} {α : Type} {a : α} (h : FLq u T (.ok a : PR α)) : u.I 2120 0 0 = 0 := sorry
theorem NdO.fj {σ s : Sg} {p : Nat → Nat → Bool} (hF : FJ p σ s) (hp : ∀ c j, 2175 < c → c ≤ 2188 → p c j = false) : NdO b σ s := sorry
theorem NdO.trans {σ s t : Sg} (h : NdO b σ s) (k : NdO b s t) : NdO b σ t := sorry
theorem Ph2.uln (h : Ph2 τ0 τ1 τ2 B n L r b cs) (hA : wFind τ0 1 6927257 = some 192) : (addL [] (ndAl (t3 τ2 b cs) b (tgF (t3 τ2 b cs) b) (jA (t3 τ2 b cs) b (trB cs)) cs.length 0)).length < 1800 := sorry
/-- the cells of a bridge -/
theorem Ph2.br68 (h : Ph2 τ0 τ1 τ2 B n L r b cs) {Bf : Nat → BrL} {u5 u6 : Sg} (hD : BrD τ1 u5 b cs.length Bf) (hF6 : FJ (pCm b) u5 u6) {i j : Nat} (hi : i < cs.length) (hj : j < nMe (t3 τ2 b cs) (12 * b + i)) (hb : (t3 τ2 b cs).B 1206 (33 * (12 * b + i) + j) 0 = true) : u6.I 2168 0 (34 * (12 * b + i) + j) = nI (nPa (t3 τ2 b cs) (33 * (12 * b + i) + j)) := sorry
/-- the end: uses -/
theorem mj_71 (hG : GOK G) (hd : 1517 ≤ d) (h : Ph2 τ0 τ1 τ2 B n L r b cs) (hm : MH τ0 μ B n L b cs) (hA : wFind τ0 1 6927257 = some 192) (h192 : ∀ j, j < nMe τ0 192 → nPa τ0 (33 * 192 + j) = 0) (hCd : CdH (t3 τ2 b cs)) {Bf : Nat → BrL} {u5 u6 u7 : Sg} (eP : pAl τ0 τ1 τ2 b (yTok B n) cs.length (trB cs) = bdA (t3 τ2 b cs) b (trB cs) cs.length) (P5 : FJ (pP5 τ1 b cs.length) μ u5) (hD5 : BrD τ1 u5 b cs.length Bf) (F6 : FJ (pCm b) u5 u6) (U6 : ∀ i, i < cs.length → JgU (t3 τ2 b cs) u6 (12 * b + i)) (w19 : u6.I 2119 0 0 = nI b) (w23 : u6.I 2123 0 b = nI cs.length) (K7 : ∀ i j, i < cs.length → j < nMe (t3 τ2 b cs) (12 * b + i) → (t3 τ2 b cs).B 1206 (33 * (12 * b + i) + j) 0 = true → u7.I 2168 0 (34 * (12 * b + i) + j) = nI (nPa (t3 τ2 b cs) (33 * (12 * b + i) + j))) (F7 : FJ (pBz b) u6 u7) (J7 : FJ (pJb b) μ u7) (N7 : NdO b μ u7) (I7 : SIv u7) (Q7 : FLq u7 (yTok B n) (bdA (t3 τ2 b cs) b (trB cs) cs.length)) (B7 : bdA (t3 τ2 b cs) b (trB cs) cs.length = .ok () → ∀ i j, i < cs.length → j < nMe (t3 τ2 b cs) (12 * b + i) → (t3 τ2 b cs).B 1206 (33 * (12 * b + i) + j) 0 = false → BdD (t3 τ2 b cs) u7 (yTok B n) b (12 * b + i) (33 * (12 * b + i) + j) (trB cs i j)) {Q : Outcome → Sg → Prop} (hQ : rV (RJa τ0 τ1 τ2 μ B n b cs) = Q) : wq_X11_judgeAll_71 l G d 0 Q u7 := sorry
/-- constants and bodies -/
theorem mj_56 (hG : GOK G) (hd : 1517 ≤ d) (h : Ph2 τ0 τ1 τ2 B n L r b cs) (hm : MH τ0 μ B n L b cs) (hA : wFind τ0 1 6927257 = some 192) (h192 : ∀ j, j < nMe τ0 192 → nPa τ0 (33 * 192 + j) = 0) (hCd : CdH (t3 τ2 b cs)) {Bf : Nat → BrL} {u5 : Sg} (eP : pAl τ0 τ1 τ2 b (yTok B n) cs.length (trB cs) = bdA (t3 τ2 b cs) b (trB cs) cs.length) (P5 : FJ (pP5 τ1 b cs.length) μ u5) (J5 : FJ (pJb b) μ u5) (hD5 : BrD τ1 u5 b cs.length Bf) (I5 : SIv u5) (Q5 : u5.I 2120 0 0 = 0) (hJg : ∀ i, i < cs.length → JgU τ2 u5 (12 * b + i)) {Q : Outcome → Sg → Prop} (hQ : rV (RJa τ0 τ1 τ2 μ B n b cs) = Q) : wq_X11_judgeAll_56 l G d 0 Q u5 := sorry
theorem sp_X11_judgeAll (hG : GOK G) (hd : 1518 ≤ d) (hμ : μ = sI σ 2191 0 0 (σ.I 2119 0 0)) (hm : MH τ0 μ B n L b cs) (hS0 : Shp τ0) (hI : SIv μ) (hq : μ.I 2120 0 0 = nI 0) (hr : L ≤ r) (hM : MOK τ0) (hO : OtK τ0 b cs.length) (hA : wFind τ0 1 6927257 = some 192) (h192 : ∀ j, j < nMe τ0 192 → nPa τ0 (33 * 192 + j) = 0) (hC : Ph2 τ0 τ1 τ2 B n L r b cs → CdH (t3 τ2 b cs)) (W1 : pA1 τ0 b (yTok B n) cs.length = .ok () → JL τ0 τ1 b B n r cs.length ∧ IVm τ0 τ1 b cs.length cs.length 0 ∧ stP sm τ1 = stP sm τ0) (W2 : pA1 τ0 b (yTok B n) cs.length = .ok () → pA2 τ1 b cs.length = .ok () → JL τ0 τ2 b B n r cs.length ∧ LBv τ1 τ2 b cs.length) : CT l G yX11_judgeAll (ws_ yX11_judgeAll cX11_judgeAll 1 none) d [.ref (G.adr 11 0)] σ (rV (RJa τ0 τ1 τ2 μ B n b cs)) := sorry
end SPX
