/-! What was read: LinkHouse's tables and the model's agree. -/
theorem KsR.at {s : Sg} {T : Nat → Tk} {L b : Nat} : ∀ {cs : List CRc} {k lo hi : Nat}, KsR s T L b k cs lo hi → ∀ i cr, cs[i]? = some cr → ∃ a e, lo ≤ a ∧ a ≤ e ∧ e ≤ hi ∧ KRec s T L (12 * b + (k + i)) b (k + i) cr a e := sorry
theorem MsR.at {s : Sg} {T : Nat → Tk} {L kk : Nat} {face : Bool} : ∀ {ms : List MRc} {j lo hi : Nat}, MsR s T L kk face j ms lo hi → ∀ i mr, ms[i]? = some mr → ∃ a e, lo ≤ a ∧ a ≤ e ∧ e ≤ hi ∧ MRec s T L (33 * kk + (j + i)) kk face mr a e := sorry
theorem getD_mem {α : Type} {ts : List α} {j : Nat} {d : α} (h : j < ts.length) : ts.getD j d ∈ ts ∧ ts[j]? = some (ts.getD j d) := sorry
section REL
variable {τ σ : Sg} {B : Nat → Nat} {n L b k lo hi lo2 hi2 : Nat} {cr : CRc}
theorem tok_C {t : Nat} (h : (yTok B n t).1 = 2) : TyC (lN (yTok B n t).2.1) ∧ lN ((yTok B n t).2.1 + 2305843009213693952) = tM (lN (yTok B n t).2.1) := sorry
theorem rel_1 (hb : b < 16) (hk : k < 12) (hR : KRec τ (yTok B n) L (12 * b + k) b k cr lo hi) (hQ : KRq σ b (yTok B n) (12 * b + k) cr lo2 hi2) (hw : WfC (yTok B n) L cr) : MK1 τ σ (12 * b + k) := sorry
theorem rel_2 (hb : b < 16) (hk : k < 12) (hR : KRec τ (yTok B n) L (12 * b + k) b k cr lo hi) (hQ : KRq σ b (yTok B n) (12 * b + k) cr lo2 hi2) (hw : WfC (yTok B n) L cr) : MK2 τ σ (12 * b + k) := sorry
theorem rel_3 (hb : b < 16) (hk : k < 12) (hL7 : L ≤ 701) (hR : KRec τ (yTok B n) L (12 * b + k) b k cr lo hi) (hQ : KRq σ b (yTok B n) (12 * b + k) cr lo2 hi2) (hw : WfC (yTok B n) L cr) : MK3 τ σ (yTok B n) (12 * b + k) ∧ HdT τ (12 * b + k) L := sorry
end REL
