/-! Rows of a class or a member that are carried to another place (weaving), or stay (frames): what is known goes with them. -/
def mcl (c : Nat) : Bool := decide (1199 < c ∧ c < 1222 ∧ ¬ c = 1210 ∧ ¬ c = 1211 ∧ ¬ c = 1215 ∧ ¬ c = 1218)
def hcl (c : Nat) : Bool := decide (1099 < c ∧ c < 1128 ∧ ¬ c = 1117 ∧ ¬ c = 1118 ∧ ¬ c = 1119 ∧ ¬ c = 1120 ∧ ¬ c = 1124 ∧ ¬ c = 1125)
/-- the rows of member m of s are those of m' of t -/
def MEv (s t : Sg) (m m' : Nat) : Prop := ∀ c i, mcl c = true → t.I c m' i = s.I c m i ∧ t.B c m' i = s.B c m i ∧ t.L c m' i = s.L c m i
def HEv (s t : Sg) (k k' : Nat) : Prop := ∀ c i, hcl c = true → t.I c k' i = s.I c k i ∧ t.B c k' i = s.B c k i ∧ t.L c k' i = s.L c k i
/-- the uses of class k of s are those of k' of t -/
def UEv (s t : Sg) (k k' : Nat) : Prop := nUk s k ≤ nUk t k' ∧ ∀ u, u < nUk s k → uSo t k' u = uSo s k u ∧ uTi t k' u = uTi s k u ∧ uTy t k' u = uTy s k u ∧ uPm t k' u = uPm s k u ∧ t.L 1703 (uAt t k' u) 0 = s.L 1703 (uAt s k u) 0
section EV
variable {s t : Sg} {k k' m m' : Nat}
theorem MEv.i (h : MEv s t m m') (c i : Nat) (hc : mcl c = true) : t.I c m' i = s.I c m i := sorry
theorem MEv.b (h : MEv s t m m') (c i : Nat) (hc : mcl c = true) : t.B c m' i = s.B c m i := sorry
theorem MEv.l (h : MEv s t m m') (c i : Nat) (hc : mcl c = true) : t.L c m' i = s.L c m i := sorry
theorem HEv.i (h : HEv s t k k') (c i : Nat) (hc : hcl c = true) : t.I c k' i = s.I c k i := sorry
theorem HEv.b (h : HEv s t k k') (c i : Nat) (hc : hcl c = true) : t.B c k' i = s.B c k i := sorry
theorem HEv.l (h : HEv s t k k') (c i : Nat) (hc : hcl c = true) : t.L c k' i = s.L c k i := sorry
theorem UEv.lt (h : UEv s t k k') {u : Nat} (hu : u < nUk s k) : u < nUk t k' := sorry
theorem UEv.so (h : UEv s t k k') {u : Nat} (hu : u < nUk s k) : uSo t k' u = uSo s k u := sorry
theorem UEv.ti (h : UEv s t k k') {u : Nat} (hu : u < nUk s k) : uTi t k' u = uTi s k u := sorry
theorem UEv.ty (h : UEv s t k k') {u : Nat} (hu : u < nUk s k) : uTy t k' u = uTy s k u := sorry
theorem UEv.pm (h : UEv s t k k') {u : Nat} (hu : u < nUk s k) : uPm t k' u = uPm s k u := sorry
theorem UEv.ot (h : UEv s t k k') {u : Nat} (hu : u < nUk s k) : t.L 1703 (uAt t k' u) 0 = s.L 1703 (uAt s k u) 0 := sorry
theorem MEv.pa (h : MEv s t m m') : nPa t m' = nPa s m := sorry
theorem MEv.pm (h : MEv s t m m') : pmL t m' = pmL s m := sorry
theorem MEv.lo (h : MEv s t m m') : nLo t m' = nLo s m := sorry
theorem MEv.ca (h : MEv s t m m') : cdAt t m' = cdAt s m := sorry
theorem MEv.st (h : MEv s t m m') : rSt t m' = rSt s m := sorry
theorem wtFt.ev (h : UEv s t k k') {a b : Int64} (w : wtFt s k a b) : wtFt t k' a b := sorry
theorem wtRw.ev (h : UEv s t k k') : ∀ {a b : List Int64}, wtRw s k a b → wtRw t k' a b := sorry
theorem wtE.ev (h : UEv s t k k') (eT : t.L 1100 k' 0 = s.L 1100 k 0) {Γ : Nat → Int64} {st : Bool} {nl : Nat} : ∀ (x : RT), wtE s k Γ st nl x → wtE t k' Γ st nl x := sorry
theorem wtS.ev (h : UEv s t k k') (eT : t.L 1100 k' 0 = s.L 1100 k 0) (e7 : t.L 1107 k' 0 = s.L 1107 k 0) (e2 : t.B 1102 k' 0 = s.B 1102 k 0) {Γ : Nat → Int64} {st : Bool} {nl : Nat} {mt : Int64} : ∀ (x : RT), wtS s k Γ st nl mt x → wtS t k' Γ st nl mt x := sorry
theorem gPm.ev (h : MEv s t m m') (e : t.L 1100 (mOf t m') 0 = s.L 1100 (mOf s m) 0) {Γ : Nat → Int64} (w : gPm s m Γ) : gPm t m' Γ := sorry
theorem wtM.ev {P P' : Pg} (h : UEv s t k k') (hH : HEv s t k k') (hm : MEv s t m m') (eo : s.R 1222 m 0 = some k) (eo' : t.R 1222 m' 0 = some k') (p1 : P'.1 m' = P.1 m) (p2 : P'.2 m' = P.2 m) (w : wtM s P k m) : wtM t P' k' m' := sorry
theorem KGm.ev (h : MEv s t m m') (w : KGm s m) : KGm t m' := sorry
theorem MbX.ev (h : MEv s t m m') (w : MbX s m) : MbX t m' := sorry
end EV
