/-! Members that were judged are well typed: the theorem. -/
/-- what is known of a member that was judged -/
def MbG (τ : Sg) (k m : Nat) (x0 : Tr) (a e : Nat) : Prop := (a ≤ e ∧ e ≤ 702) ∧ (τ.I 1200 m 0 = 0 → x0 = .leaf ∨ ∃ w, wt x0 0 w a e) ∧ (¬ τ.I 1200 m 0 = 0 → x0 = .leaf ∨ (kdO x0 = 30 ∧ ∃ w, wt x0 2 w a e)) ∧ ((τ.I 1200 m 0 = 0 ∨ τ.I 1200 m 0 = 1 ∨ τ.I 1200 m 0 = 2 ∨ τ.I 1200 m 0 = 3) ∧ (τ.I 1200 m 0 = 3 → nPa τ m = 0) ∧ nPa τ m ≤ 4) ∧ (∀ i, i < nPa τ m → ¬ τ.L 1209 m i = 0) ∧ (τ.I 1200 m 0 = 1 → τ.B 1205 m 0 = false → isLf x0 = false) ∧ (¬ τ.I 1200 m 0 = 0 → ¬ τ.I 1200 m 0 = 1 → τ.L 1207 m 0 = 0) ∧ (τ.I 1200 m 0 = 2 → τ.B 1203 m 0 = false)
section WTM
variable {τ s : Sg} {k m t : Nat} {ix : Us → Nat} {UF : List Us} {P : Pg} {x0 : Tr} {z : Tr × Lcs × Nat} {a e : Nat}
/-- params as locals -/
theorem pmK_in : ∀ (p i : Nat) (Lc : Lcs) (sn : Nat) (q : Lcs × Nat), pmK τ m p i Lc sn = .ok q → q.2 = sn + p ∧ q.1.length = Lc.length + p ∧ ∀ c, c ∈ q.1 → c ∈ Lc ∨ ∃ j, i ≤ j ∧ j < i + p ∧ c.2 = (τ.L 1209 m j, sn + (j - i)) := sorry
/-- the types of the first locals -/
def gam0 (τ : Sg) (k m : Nat) : Nat → Int64 := fun i => if bSt τ m = false ∧ i = 0 then τ.L 1100 k 0 else τ.L 1209 m (i - bSn τ m)
theorem gam0_p {i : Nat} : gam0 τ k m (bSn τ m + i) = τ.L 1209 m i := sorry
theorem gPm_of {Γ : Nat → Int64} (hs : MsE τ s k m) (h3 : τ.I 1200 m 0 = 3 → nPa τ m = 0) (hΓ : ∀ i, i < bSn τ m + nPa τ m → Γ i = gam0 τ k m i) : gPm s m Γ := sorry
/-- A MEMBER THAT WAS JUDGED IS WELL TYPED -/
theorem wtM_of (H : WtH τ s k ix UF) (hs : MsE τ s k m) (hg : MbG τ k m x0 a e) (hb : τ.B 1206 m 0 = false) (hz : bdJ τ k m x0 = .ok z) (hl : nLo s m = jn τ k m x0) (hn : ∀ r, r ∈ ndM τ k m t z.1 → r ∈ UF) (hP1 : P.1 m = rtB τ k m ix z.1) (hP2 : P.2 m = ruB τ k m t ix z.1) : wtM s P k m := sorry
end WTM
