/-! A MADE BUILD: its classes are in order. -/
theorem SmJ.keq {τ s : Sg} (h : SmJ τ s) {c : Nat} (hc : c < 194) : KEq τ s c := sorry
theorem sk_h {x : Nat} (h : hcl x = true) : sk x = true := sorry
theorem SmJ.hev {τ s : Sg} (h : SmJ τ s) {c : Nat} : HEv τ s c c := sorry
theorem ZEv.refl {σ : Sg} {c : Nat} : ZEv σ σ c c := sorry
theorem UqK.eq {τ s : Sg} {c : Nat} (h : KEq τ s c) (hn : nMe τ c ≤ 33) (w : UqK τ c) : UqK s c := sorry
theorem BaK.eq {τ s : Sg} {m : Nat} (h : MEq τ s m) (w : BaK τ m) : BaK s m := sorry
section MCO
variable {τ0 τ1 τ2 s u : Sg} {B : Nat → Nat} {n L r b : Nat} {cs : List CRc} {P : Pg} {i j : Nat}
theorem Mde.pk (h : Mde τ0 τ1 τ2 s u B n L r b cs) (hi : i < cs.length) : ¬ s.I 1101 (12 * b + i) 0 = 26 := sorry
theorem Mde.col (h : Mde τ0 τ1 τ2 s u B n L r b cs) (hX : OtX τ0 b) (hq : ∀ i j, pcd (trB cs i j)) (hP : PgB τ2 b cs P) (h192 : ∀ j, j < nMe τ0 192 → nPa τ0 (33 * 192 + j) = 0) (hi : i < cs.length) : CoL s P b (12 * b + i) := sorry
theorem Mde.com (h : Mde τ0 τ1 τ2 s u B n L r b cs) (hX : OtX τ0 b) (hq : ∀ i j, pcd (trB cs i j)) (hP : PgB τ2 b cs P) (h192 : ∀ j, j < nMe τ0 192 → nPa τ0 (33 * 192 + j) = 0) (hi : i < cs.length) : CoM s u P b (12 * b + i) := sorry
end MCO
