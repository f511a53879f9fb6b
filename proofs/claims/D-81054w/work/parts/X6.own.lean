/-! The classes of a build behind members and bridges are in order. -/
/-- the other classes of the world are in order -/
def OtK (τ0 : Sg) (b nk : Nat) : Prop := ∀ c, c ∈ wKs τ0 1 → (12 * b ≤ c ∧ c < 12 * b + nk) ∨ ((c < 12 * b ∨ 12 * b + 12 ≤ c) ∧ KGd τ0 c)
theorem pJ_oth {b x i : Nat} (h1 : 1099 < x) (h2 : x ≤ 1128) (hi : i < 12 * b ∨ 12 * b + 12 ≤ i) : pJ b x i = false := sorry
theorem pJ_otm {b x i : Nat} (h1 : 1199 < x) (h2 : x ≤ 1222) (hi : i < 396 * b ∨ 396 * b + 396 ≤ i) (hi2 : i < 6402) : pJ b x i = false := sorry
theorem KEq.oth {τ s : Sg} {b c : Nat} (h : Fl (pJ b) τ s) (hc : c < 12 * b ∨ 12 * b + 12 ≤ c) (hc2 : c < 194) : KEq τ s c := sorry
theorem MB.i {s : Sg} {q kk : Nat} {fI : Nat → Int32} {fB : Nat → Bool} {fL : Nat → Int64} {x y z : Int32} (h : MB s q kk fI fB fL x y z) {c : Nat} (hc : iC c = true) : s.I c q 0 = fI c := sorry
theorem MB.b {s : Sg} {q kk : Nat} {fI : Nat → Int32} {fB : Nat → Bool} {fL : Nat → Int64} {x y z : Int32} (h : MB s q kk fI fB fL x y z) {c : Nat} (hc : bC c = true) : s.B c q 0 = fB c := sorry
theorem MB.l {s : Sg} {q kk : Nat} {fI : Nat → Int32} {fB : Nat → Bool} {fL : Nat → Int64} {x y z : Int32} (h : MB s q kk fI fB fL x y z) {c : Nat} (hc : lC c = true) : s.L c q 0 = fL c := sorry
section OWN
variable {τ0 τ1 τ2 : Sg} {B : Nat → Nat} {n L r b : Nat} {cs : List CRc}
/-- a told member of the build, behind the members -/
theorem own_m1 (hR : RdT τ0 B n L b cs) (hV : IVm τ0 τ1 b cs.length cs.length 0) (he : stP sm τ1 = stP sm τ0) {i j : Nat} (hi : i < cs.length) (hj : j < nMe τ0 (12 * b + i)) : KGm τ1 (33 * (12 * b + i) + j) := sorry
/-- a member of the world, behind the members -/
theorem own_mw (hR : RdT τ0 B n L b cs) (hO : OtK τ0 b cs.length) (hJ : JL τ0 τ1 b B n r cs.length) (hV : IVm τ0 τ1 b cs.length cs.length 0) (he : stP sm τ1 = stP sm τ0) {c j : Nat} (hc : c ∈ wKs τ1 1) (hj : j < nMe τ1 c) : KGm τ1 (33 * c + j) := sorry
theorem KGm.maker {s : Sg} {q kk : Nat} {a : Int32} (h : MB s q kk (nwI 2 a 0) (nwB false false) (nwL 0 0) (-2) (-2) (-2)) (ha : ∃ x, x < 4 ∧ a = nI x) : KGm s q := sorry
theorem KGm.bridge {τ s : Sg} {q kk m : Nat} {t : Int64} (h : NBf τ s kk q m t) (ht : TyC t) (k : KGm τ m) : KGm s q := sorry
theorem wHr_in {σ : Sg} {w a b : Nat} (h : wHr σ w a b) : b ∈ wKs σ w := sorry
/-- the bridges of a class of the build: what they are -/
theorem own_br (hR : RdT τ0 B n L b cs) (hO : OtK τ0 b cs.length) (hJ : JL τ0 τ1 b B n r cs.length) (hV : IVm τ0 τ1 b cs.length cs.length 0) (he : stP sm τ1 = stP sm τ0) (hA : pA2 τ1 b cs.length = .ok ()) {i : Nat} (hi : i < cs.length) {Bs : BrL} (hB : brA τ1 (12 * b + i) (nMe τ1 (12 * b + i)) 0 [] = .ok Bs) : ∀ p, p ∈ Bs → TyC p.2 ∧ TyC (τ1.L 1207 p.1 0) ∧ ∃ j, j < nMe τ1 (12 * b + i) ∧ p.1 = 33 * (12 * b + i) + j := sorry
end OWN
