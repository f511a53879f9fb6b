/-! Places of locals: judged S's in the model's cells. -/
/-- locals have slots of their own, below sn -/
def SlK (Lc : Lcs) (sn : Nat) : Prop := (∀ c, c ∈ Lc → c.2.2 < sn) ∧ ∀ (i j : Nat) (c d : Int64 × Int64 × Nat), Lc[i]? = some c → Lc[j]? = some d → c.2.2 = d.2.2 → i = j
abbrev sls (Lc : Lcs) : List Nat := Lc.map fun c => c.2.2
section SCS
variable {τ : Sg} {k nL : Nat} {st : Bool} {ix : Us → Nat} {ms : Int32} {mt : Int64}
theorem SlK.up {Lc : Lcs} {sn sn' : Nat} (h : SlK Lc sn) (hs : sn ≤ sn') : SlK Lc sn' := sorry
theorem SlK.add {Lc : Lcs} {sn : Nat} {nm ty : Int64} (h : SlK Lc sn) : SlK (Lc ++ [(nm, ty, sn)]) (sn + 1) := sorry
theorem SlK.ne {Lc : Lcs} {sn : Nat} (h : SlK Lc sn) {s : Nat} (hs : sn ≤ s) : ¬ s ∈ sls Lc := sorry
theorem SlK.at {Lc : Lcs} {sn i : Nat} (h : SlK Lc sn) {c : Int64 × Int64 × Nat} (hi : Lc[i]? = some c) : (sls Lc)[i]? = some c.2.2 ∧ ∀ j, (sls Lc)[j]? = some c.2.2 → j = i := sorry
/-- one node: what its kind asks -/
theorem sS_e {b : RLb} {Ls : List Nat} {X : RT} (h : b.op = 34 ∨ b.op = 35 ∨ b.op = 37 ∨ b.op = 39) (hx : scX nL Ls X) : scS nL Ls (rn b X .leaf) := sorry
theorem sS_0 {b : RLb} {Ls : List Nat} {X Y : RT} (h : b.op = 0) (hx : scS nL Ls X ∧ scS nL (Ls ++ letS X) Y) : scS nL Ls (rn b X Y) := sorry
theorem sS_41 {b : RLb} {Ls : List Nat} {X Y : RT} (h : b.op = 41) (hx : scS nL Ls X ∧ scS nL Ls Y) : scS nL Ls (rn b X Y) := sorry
theorem sS_30 {b : RLb} {Ls : List Nat} {X Y : RT} (h : b.op = 30) (hx : scS nL Ls X) : scS nL Ls (rn b X Y) := sorry
theorem sS_31 {b : RLb} {Ls : List Nat} {X Y : RT} (h : b.op = 31) (hx : scX nL Ls X ∧ b.pl = Ls.length ∧ b.pl < nL ∧ ¬ b.sl ∈ Ls) : scS nL Ls (rn b X Y) := sorry
theorem sS_32 {b : RLb} {Ls : List Nat} {X Y : RT} (h : b.op = 32 ∨ b.op = 33) (hx : scX nL Ls X ∧ scS nL Ls Y) : scS nL Ls (rn b X Y) := sorry
theorem sS_36 {b : RLb} {Ls : List Nat} {X Y : RT} (h : b.op = 36) (hx : scS nL Ls X ∧ scS nL (Ls ++ [b.sl]) Y ∧ b.pl = Ls.length ∧ b.pl < nL ∧ ¬ b.sl ∈ Ls) : scS nL Ls (rn b X Y) := sorry
theorem sS_40 {b : RLb} {Ls : List Nat} {X Y : RT} (h : b.op = 40) (hx : scX nL Ls Y ∧ Ls[b.pl]? = some b.sl ∧ ∀ i, Ls[i]? = some b.sl → i = b.pl) : scS nL Ls (rn b X Y) := sorry
theorem sS_42 {b : RLb} {Ls : List Nat} {X Y : RT} (h : b.op = 42 ∨ b.op = 43) (hx : scX nL Ls Y) : scS nL Ls (rn b X Y) := sorry
theorem sS_44 {b : RLb} {Ls : List Nat} {X Y : RT} (h : b.op = 44) (hx : scX nL Ls X ∧ scX nL Ls Y) : scS nL Ls (rn b X Y) := sorry
theorem letS_p {b : RLb} {X Y : RT} (h : ¬ b.op = 31) : letS (rn b X Y) = [] := sorry
/-- an E's places and sizes -/
theorem scX_0 (hW : WOK τ 1) (hk : wFind τ 1 (τ.L 1100 k 0) = some k) (hP : ∀ m, LivU τ (wKs τ 1) m → nPa τ m ≤ 4) {Lc : Lcs} (hLc : Lc.length < 1000) {x x1 : Tr} {w a e : Nat} (hw : wt x 0 w a e) (h : ckE τ k st Lc x = .ok x1) (hp : pcd x) (hn : nL + 48 ≤ 260) (he : e ≤ 702) : scX nL (sls Lc) (rtE τ k ix x1) := sorry
/-- the local that is put to -/
theorem put_at {Lc : Lcs} {x : Tr} {sz3 : Nat} {b3 : Lb} {u3 : Unit} {xx yy : Tr} (h : ckE τ k st Lc x = .ok (.inner sz3 b3 u3 xx yy)) (hp : ckPt τ k ms (.inner sz3 b3 u3 xx yy) = true) (h0 : b3.2.2.2.2.2.2.2.1 = 0) : ∃ c, Lc[b3.2.2.2.2.2.2.2.2.1]? = some c ∧ c.2.2 = b3.2.2.2.2.2.2.2.2.2 - 1 := sorry
/-- PLACES OF LOCALS IN AN S (that does not begin by super) -/
theorem scS_of (hW : WOK τ 1) (hk : wFind τ 1 (τ.L 1100 k 0) = some k) (hP : ∀ m, LivU τ (wKs τ 1) m → nPa τ m ≤ 4) (hn : nL + 48 ≤ 260) : ∀ (x : Tr) {m w a e sn : Nat} {Lc : Lcs} {p : Tr × Lcs × Nat}, wt x m w a e → m = 2 ∨ m = 3 ∨ m = 4 ∨ m = 6 → pcd x → Lc.length + (e - a) < 1000 → e ≤ 702 → ckS τ k st ms mt x 0 Lc sn = .ok p → SlK Lc sn → mxL x Lc.length ≤ nL → scS nL (sls Lc) (rtS τ k ix p.1) ∧ SlK p.2.1 p.2.2 ∧ (m = 2 → sls p.2.1 = sls Lc ++ letS (rtS τ k ix p.1) ∧ p.2.1.length = (if kdO x = 31 then Lc.length + 1 else Lc.length) ∧ (¬ kdO x = 31 → p.2.1 = Lc)) := sorry
end SCS
