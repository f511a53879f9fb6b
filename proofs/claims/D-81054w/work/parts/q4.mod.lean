/-! Bodies of a made build: cells, places, heights. -/
section MOD
variable {τ : Sg} {k m n0 n1 nL : Nat} {U : List Us} {ix : Us → Nat} {z : Tr × Lcs × Nat} {x0 : Tr} {a e : Nat}
theorem uIx_ge : ∀ (U : List Us) {r : Us}, ¬ r ∈ U → uIx U r = U.length := sorry
theorem TbK.lo (hT : TbK U k n0 n1) (r : Us) (hr : r.1 = k) : n0 ≤ uIx U r := sorry
theorem tl_n38 : ∀ (x : Tr) {w a e : Nat}, kdO x = 30 → wt x 2 w a e → n38 x = 0 → tlS x = false := sorry
/-- the slots of params -/
theorem pmK_sl : ∀ (p i : Nat) (Lc : Lcs) (sn : Nat) (q : Lcs × Nat), pmK τ m p i Lc sn = .ok q → SlK Lc sn → SlK q.1 q.2 ∧ sls q.1 = sls Lc ++ (List.range p).map (fun i => sn + i) := sorry
/-- most locals of a body -/
theorem bMx_le (hW : WOK τ 1) (hk : wFind τ 1 (τ.L 1100 k 0) = some k) (hP : ∀ m, LivU τ (wKs τ 1) m → nPa τ m ≤ 4) (hg : MbG τ k m x0 a e) (hp : pcd x0) (hz : bdJ τ k m x0 = .ok z) : 5 * bMx τ m x0 ≤ (e - a) + 5 * nPa τ m := sorry
/-- A BODY IN THE MODEL -/
theorem bd_mod (hO : OkW τ) (hW : WOK τ 1) (hk : wFind τ 1 (τ.L 1100 k 0) = some k) (hP : ∀ m, LivU τ (wKs τ 1) m → nPa τ m ≤ 4) (hg : MbG τ k m x0 a e) (hp : pcd x0) (hz : bdJ τ k m x0 = .ok z) (h0 : ¬ τ.I 1200 m 0 = 0) (hL : bMx τ m x0 ≤ nL) (hn : nL + 48 ≤ 260) : scBd nL (lsM τ m) (rtS τ k ix z.1) ∧ hgS (rtS τ k ix z.1) ≤ 13 ∧ rNs (rtS τ k ix z.1) ≤ 172 ∧ 5 * jn τ k m x0 + rNs (rtS τ k ix z.1) ≤ (e - a) + 5 * (bSn τ m + nPa τ m) + 4 ∧ ((x0 = .leaf ∧ z.1 = .leaf) ∨ kdO z.1 = 30) := sorry
end MOD
