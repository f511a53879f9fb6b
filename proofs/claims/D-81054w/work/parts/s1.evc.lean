/-! Code and catches that are carried. -/
section EVC
variable {s t : Sg} {k k' m m' b b' L N : Nat} {P P' : Pg}
theorem CdA.ev (hc : ∀ p, p < L → t.I 2010 b' p = s.I 2010 b p) {p : Nat} {C : List Int32} (hl : p + C.length ≤ L) (h : CdA s b p C) : CdA t b' p C := sorry
theorem HdA.ev (hr : ∀ p, p < 4 * N → t.I 2012 b' p = s.I 2012 b p) {q : Nat} {H : List Ctc} (hl : q + H.length ≤ N) (h : HdA s b q H) : HdA t b' q H := sorry
theorem NoCv.ev (hr : ∀ p, p < 4 * N → t.I 2012 b' p = s.I 2012 b p) {i1 i2 a : Nat} (hl : i2 ≤ N) (h : NoCv s b i1 i2 a) : NoCv t b' i1 i2 a := sorry
theorem Enk.ev (hm : MEv s t m m') (hb : m' < 22404) {c : Nat} (h : Enk s m c) : Enk t m' c := sorry
/-- new members that are no fields -/
theorem fsR_no : ∀ (n j : Nat), (∀ i, j ≤ i → i < j + n → ¬ s.I 1200 (33 * k + i) 0 = 0) → fsR s P k n j = [] := sorry
theorem fsR_ev : ∀ (n j e : Nat), (∀ i, j ≤ i → i < j + n → MEv s t (33 * k + i) (33 * k' + i) ∧ P'.1 (33 * k' + i) = P.1 (33 * k + i)) → (∀ i, j + n ≤ i → i < j + n + e → ¬ t.I 1200 (33 * k' + i) 0 = 0) → fsR t P' k' (n + e) j = fsR s P k n j := sorry
theorem mkP.ev (hm : MEv s t m m') (p1 : P'.1 m' = P.1 m) (p2 : P'.2 m' = P.2 m) (eF : fsR t P' k' (nMe t k') 0 = fsR s P k (nMe s k) 0) : mkP t P' k' m' = mkP s P k m := sorry
theorem bdR.ev (hm : MEv s t m m') (p1 : P'.1 m' = P.1 m) (p2 : P'.2 m' = P.2 m) (eF : fsR t P' k' (nMe t k') 0 = fsR s P k (nMe s k) 0) : bdR t P' k' m' = bdR s P k m := sorry
theorem bhR.ev (hm : MEv s t m m') (p1 : P'.1 m' = P.1 m) (p2 : P'.2 m' = P.2 m) (eF : fsR t P' k' (nMe t k') 0 = fsR s P k (nMe s k) 0) : bhR t P' k' m' = bhR s P k m := sorry
theorem BdC.ev (hm : MEv s t m m') (hb : m' < 22404) (hc : ∀ p, p < L → t.I 2010 b' p = s.I 2010 b p) (hr : ∀ p, p < 4 * N → t.I 2012 b' p = s.I 2012 b p) (hl : cdAt s m + (mkP s P k m).length + (bdR s P k m).length + 2 ≤ L) (p1 : P'.1 m' = P.1 m) (p2 : P'.2 m' = P.2 m) (eF : fsR t P' k' (nMe t k') 0 = fsR s P k (nMe s k) 0) (w : BdC s P b N k m) : BdC t P' b' N k' m' := sorry
theorem FdC.ev (hm : MEv s t m m') (hb : m' < 22404) (hc : ∀ p, p < L → t.I 2010 b' p = s.I 2010 b p) (hr : ∀ p, p < 4 * N → t.I 2012 b' p = s.I 2012 b p) (hl : cdAt s m + (rcE (P.1 m)).length + 4 ≤ L) (p1 : P'.1 m' = P.1 m) (w : FdC s P b N m) : FdC t P' b' N m' := sorry
theorem FsCd.ev (hm : MEv s t m m') (hb : m' < 22404) (hc : ∀ p, p < L → t.I 2010 b' p = s.I 2010 b p) (hr : ∀ p, p < 4 * N → t.I 2012 b' p = s.I 2012 b p) (hl : cdAt s m + (rcE (P.1 m)).length + 4 ≤ L) (p1 : P'.1 m' = P.1 m) (w : FsCd s P b N m) : FsCd t P' b' N m' := sorry
theorem ldP_ln : ∀ (n f : Nat), (ldP n f).length = 2 * n := sorry
theorem BrC.ev (hm : MEv s t m m') (hb : m' < 22404) (hc : ∀ p, p < L → t.I 2010 b' p = s.I 2010 b p) (hr : ∀ p, p < 4 * N → t.I 2012 b' p = s.I 2012 b p) (hl : cdAt s m + (if s.B 1203 m 0 = true then 0 else 2) + 2 * nPa s m + 4 ≤ L) (p2 : P'.2 m' = P.2 m) (w : BrC s P b N m) : BrC t P' b' N m' := sorry
end EVC
