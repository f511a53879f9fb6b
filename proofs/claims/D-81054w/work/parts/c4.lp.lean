/-! LINKHOUSE's MACHINE: the loop, step by step; simple codes. -/
section FRO
variable {σ s : Sg} {a : Nat} {S0 : Bw} {m p : Nat} {ic : Bool} {e : Env} {o : List Int32} {fs : List Fr}
theorem sk_push {v : Int32} : skF σ S0 ((m, p, ic, e, v :: o) :: fs) = skF σ S0 ((m, p, ic, e, o) :: fs) ++ [v] := sorry
theorem sk_pc {p' : Nat} {ic' : Bool} : skF σ S0 ((m, p', ic', e, o) :: fs) = skF σ S0 ((m, p, ic, e, o) :: fs) := sorry
theorem sk_len : (skF σ S0 ((m, p, ic, e, o) :: fs)).length = (skF σ S0 fs).length + nLo σ m + o.length := sorry
theorem FRm.pc {p' : Nat} {x : Int32} (h : FRm σ a S0 ((m, p, ic, e, o) :: fs) s) (hx : x = nI p') : FRm σ a S0 ((m, p', ic, e, o) :: fs) (sI s 1918 0 fs.length x) := sorry
/-- the stack alone changes, above the frames' bases -/
theorem FRm.sk {o' : List Int32} {e' : Env} {s' : Sg} (h : FRm σ a S0 ((m, p, ic, e, o) :: fs) s) (hs : SkR s' (skF σ S0 ((m, p, ic, e', o') :: fs))) (hI : ∀ c i j, c ≠ 1915 → c ≠ 1916 → s'.I c i j = s.I c i j) (hR : s'.R = s.R) (hB : s'.B = s.B) : FRm σ a S0 ((m, p, ic, e', o') :: fs) s' := sorry
theorem FRm.push {v : Int32} (h : FRm σ a S0 ((m, p, ic, e, o) :: fs) s) (hk : (skF σ S0 ((m, p, ic, e, o) :: fs)).length < 16000) : FRm σ a S0 ((m, p, ic, e, v :: o) :: fs) (sI (sI s 1916 0 0 (s.I 1916 0 0 + 1)) 1915 0 (s.I 1916 0 0).toNatClampNeg v) := sorry
theorem FRm.sp {v : Int32} (h : FRm σ a S0 ((m, p, ic, e, v :: o) :: fs) s) : s.I 1916 0 0 - 1 = nI (skF σ S0 ((m, p, ic, e, o) :: fs)).length ∧ s.I 1915 0 (skF σ S0 ((m, p, ic, e, o) :: fs)).length = v := sorry
theorem FRm.pop {v : Int32} {x : Int32} (h : FRm σ a S0 ((m, p, ic, e, v :: o) :: fs) s) (hx : x = nI (skF σ S0 ((m, p, ic, e, o) :: fs)).length) : FRm σ a S0 ((m, p, ic, e, o) :: fs) (sI s 1916 0 0 x) := sorry
/-- the last operand changes -/
theorem FRm.set {v w : Int32} (h : FRm σ a S0 ((m, p, ic, e, v :: o) :: fs) s) : FRm σ a S0 ((m, p, ic, e, w :: o) :: fs) (sI s 1915 0 (skF σ S0 ((m, p, ic, e, o) :: fs)).length w) := sorry
/-- locals -/
theorem FRm.loc {j : Nat} (h : FRm σ a S0 ((m, p, ic, e, o) :: fs) s) (hj : j < nLo σ m) : s.I 1915 0 ((skF σ S0 fs).length + j) = e j := sorry
theorem map_setN {n j : Nat} {v : Int32} (hj : j < n) : ∃ A B : List Int32, (List.range n).map e = A ++ e j :: B ∧ A.length = j ∧ (List.range n).map (setN e j v) = A ++ v :: B := sorry
theorem FRm.store {j : Nat} {v : Int32} (h : FRm σ a S0 ((m, p, ic, e, o) :: fs) s) (hj : j < nLo σ m) : FRm σ a S0 ((m, p, ic, setN e j v, o) :: fs) (sI s 1915 0 ((skF σ S0 fs).length + j) v) := sorry
end FRO
