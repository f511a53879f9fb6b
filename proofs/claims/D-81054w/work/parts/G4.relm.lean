/-! What was read: the members of LinkHouse's tables and the model's agree. -/
theorem LTr.no {σ : Sg} {T : Nat → Tk} {L lo hi : Nat} {x : Tr} {v : Int32} (h : LTr σ T L x lo hi v) (hx : x = nl ∨ isT x = true) : v = (-2) ↔ isT x = false := sorry
theorem MTr.no {σ : Sg} {s : Nat} {T : Nat → Tk} {lo hi : Nat} {x : Tr} {v : Int32} (hs : s < 16) (h : MTr σ s T x lo hi v) (hx : x = nl ∨ isT x = true) : v = (-2) ↔ isT x = false := sorry
theorem tyOK_tok {B : Nat → Nat} {n t : Nat} (h : tyS (yTok B n t).1) : TyOK (lN (tyT (yTok B n) t)) := sorry
section REL
variable {τ σ : Sg} {B : Nat → Nat} {n L b k j lo hi lo2 hi2 : Nat} {mr : MRc} {face : Bool}
theorem rel_m (hb : b < 16) (hk : k < 12) (hj : j < 20) (hL7 : L ≤ 701) (hf : τ.B 1102 (12 * b + k) 0 = face) (hR : MRec τ (yTok B n) L (33 * (12 * b + k) + j) (12 * b + k) face mr lo hi) (hQ : MRq σ b (yTok B n) face (34 * (12 * b + k) + j) mr lo2 hi2) (hw : WfM (yTok B n) L mr) : MM0 τ σ (yTok B n) (12 * b + k) (33 * (12 * b + k) + j) (34 * (12 * b + k) + j) mr.1 mr.2.1 ∧ MmT τ (yTok B n) (33 * (12 * b + k) + j) L := sorry
end REL
