/-! Judged trees are well typed: one node of an E. -/
theorem nle {n m : Nat} (h : Nat.ble n m = true) : n ≤ m := sorry
theorem nne {n m : Nat} (h : Nat.beq n m = false) : ¬ n = m := sorry
section WEN
variable {s : Sg} {k : Nat} {Γ : Nat → Int64} {st : Bool} {nl wh pl sl u1 u2 : Nat} {va : Int32} {ty : Int64} {X Y : RT}
theorem wE_0 (h : wtE s k Γ st nl X ∧ wtE s k Γ st nl Y ∧ isEx X ∧ isRo Y) : wtE s k Γ st nl (rn (rb 0 wh va pl sl ty u1 u2) X Y) := sorry
theorem wE_1 (h : ty = 1 ∨ (ty = 2 ∧ va = 0)) : wtE s k Γ st nl (rn (rb 1 wh va pl sl ty u1 u2) X Y) := sorry
theorem wE_2 (h : ty = Γ sl ∧ ¬ ty = 0 ∧ sl < nl) : wtE s k Γ st nl (rn (rb 2 wh va pl sl ty u1 u2) X Y) := sorry
theorem wE_3 (h : st = false ∧ ty = s.L 1100 k 0 ∧ ¬ ty = 0) : wtE s k Γ st nl (rn (rb 3 wh va pl sl ty u1 u2) X Y) := sorry
theorem wE_4 (h : u1 < nUk s k ∧ uSo s k u1 = 5 ∧ uTy s k u1 = ty ∧ ¬ ty = 0) : wtE s k Γ st nl (rn (rb 4 wh va pl sl ty u1 u2) X Y) := sorry
theorem wE_5 (h : st = false ∧ u1 < nUk s k ∧ uSo s k u1 = 3 ∧ uTi s k u1 = s.L 1100 k 0 ∧ uTy s k u1 = ty ∧ ¬ ty = 0) : wtE s k Γ st nl (rn (rb 5 wh va pl sl ty u1 u2) X Y) := sorry
theorem wE_6 (h : wtE s k Γ st nl X ∧ isEx X ∧ u1 < nUk s k ∧ uSo s k u1 = 3 ∧ uTi s k u1 = rTy X ∧ uTy s k u1 = ty ∧ ¬ ty = 0 ∧ ¬ rTy X = 1) : wtE s k Γ st nl (rn (rb 6 wh va pl sl ty u1 u2) X Y) := sorry
theorem wE_7 (h : wtE s k Γ st nl X ∧ isE1 X ∧ ty = rTy X) : wtE s k Γ st nl (rn (rb 7 wh va pl sl ty u1 u2) X Y) := sorry
theorem wE_8 (h : wtE s k Γ st nl X ∧ isEx X ∧ u1 < nUk s k ∧ uSo s k u1 = 14 ∧ ty = 1 ∧ ¬ rTy X = 1) : wtE s k Γ st nl (rn (rb 8 wh va pl sl ty u1 u2) X Y) := sorry
theorem wE_9 (h : wtE s k Γ st nl X ∧ isEx X ∧ u1 < nUk s k ∧ uSo s k u1 = 13 ∧ ty = uTi s k u1 ∧ ¬ ty = 0 ∧ ¬ rTy X = 1) : wtE s k Γ st nl (rn (rb 9 wh va pl sl ty u1 u2) X Y) := sorry
theorem wE_10 (h : wtE s k Γ st nl X ∧ wtE s k Γ st nl Y ∧ isEx X ∧ isEx Y ∧ ty = 1 ∧ 12 ≤ wh ∧ wh ≤ 16) : wtE s k Γ st nl (rn (rb 10 wh va pl sl ty u1 u2) X Y) := sorry
theorem wE_11 (h : wtE s k Γ st nl Y ∧ isRo Y ∧ u1 < nUk s k ∧ (uSo s k u1 = 9 ∨ uSo s k u1 = 10) ∧ uTy s k u1 = ty ∧ wtRw s k (rTyL Y) (uPm s k u1)) : wtE s k Γ st nl (rn (rb 11 wh va pl sl ty u1 u2) X Y) := sorry
theorem wE_12 (h : st = false ∧ wtE s k Γ st nl Y ∧ isRo Y ∧ u1 < nUk s k ∧ (uSo s k u1 = 7 ∨ uSo s k u1 = 8) ∧ uTi s k u1 = s.L 1100 k 0 ∧ uTy s k u1 = ty ∧ wtRw s k (rTyL Y) (uPm s k u1)) : wtE s k Γ st nl (rn (rb 12 wh va pl sl ty u1 u2) X Y) := sorry
theorem wE_13 (h : st = false ∧ wtE s k Γ st nl Y ∧ isRo Y ∧ u1 < nUk s k ∧ (uSo s k u1 = 11 ∨ uSo s k u1 = 12) ∧ uTy s k u1 = ty ∧ wtRw s k (rTyL Y) (uPm s k u1)) : wtE s k Γ st nl (rn (rb 13 wh va pl sl ty u1 u2) X Y) := sorry
theorem wE_14 (h : wtE s k Γ st nl X ∧ isEx X ∧ wtE s k Γ st nl Y ∧ isRo Y ∧ u1 < nUk s k ∧ (uSo s k u1 = 7 ∨ uSo s k u1 = 8) ∧ uTi s k u1 = rTy X ∧ uTy s k u1 = ty ∧ wtRw s k (rTyL Y) (uPm s k u1) ∧ ¬ rTy X = 1) : wtE s k Γ st nl (rn (rb 14 wh va pl sl ty u1 u2) X Y) := sorry
theorem wE_15 (h : wtE s k Γ st nl Y ∧ isRo Y ∧ u1 < nUk s k ∧ u2 < nUk s k ∧ uSo s k u1 = 1 ∧ uSo s k u2 = 2 ∧ uTi s k u1 = ty ∧ uTi s k u2 = ty ∧ ¬ ty = 0 ∧ wtRw s k (rTyL Y) (uPm s k u2)) : wtE s k Γ st nl (rn (rb 15 wh va pl sl ty u1 u2) X Y) := sorry
end WEN
section WSN
variable {s : Sg} {k : Nat} {Γ : Nat → Int64} {st : Bool} {nl wh pl sl u1 u2 : Nat} {va : Int32} {ty mt : Int64} {X Y : RT}
theorem wS_0 (h0 : wtS s k Γ st nl mt X ∧ wtS s k Γ st nl mt Y) (h1 : 30 ≤ rOp X ∧ ¬ rOp X = 41 ∧ (rLf Y = true ∨ rOp Y = 0)) : wtS s k Γ st nl mt (rn (rb 0 wh va pl sl ty u1 u2) X Y) := sorry
theorem wS_41 (h0 : wtS s k Γ st nl mt X ∧ wtS s k Γ st nl mt Y) (h1 : 30 ≤ rOp X ∧ ¬ rOp X = 41 ∧ (rLf Y = true ∨ (30 ≤ rOp Y ∧ ¬ rOp Y = 41))) : wtS s k Γ st nl mt (rn (rb 41 wh va pl sl ty u1 u2) X Y) := sorry
theorem wS_30 (h0 : wtS s k Γ st nl mt X ∧ (rLf X = true ∨ rOp X = 0)) : wtS s k Γ st nl mt (rn (rb 30 wh va pl sl ty u1 u2) X Y) := sorry
theorem wS_31 (h0 : wtE s k Γ st nl X ∧ isEx X ∧ sl < nl ∧ Γ sl = ty ∧ wtFt s k (rTy X) ty ∧ (st = false → ¬ sl = 0)) : wtS s k Γ st nl mt (rn (rb 31 wh va pl sl ty u1 u2) X Y) := sorry
theorem wS_32 (h0 : wtE s k Γ st nl X ∧ isEx X ∧ rLf Y = false ∧ rOp Y = 41 ∧ wtS s k Γ st nl mt Y) : wtS s k Γ st nl mt (rn (rb 32 wh va pl sl ty u1 u2) X Y) := sorry
theorem wS_33 (h0 : wtE s k Γ st nl X ∧ isEx X ∧ rLf Y = false ∧ rOp Y = 41 ∧ wtS s k Γ st nl mt Y) : wtS s k Γ st nl mt (rn (rb 33 wh va pl sl ty u1 u2) X Y) := sorry
theorem wS_34 (h0 : wtE s k Γ st nl X ∧ (rLf X = true → mt = 0) ∧ (rLf X = false → isEx X ∧ wtFt s k (rTy X) mt ∧ ¬ mt = 0)) : wtS s k Γ st nl mt (rn (rb 34 wh va pl sl ty u1 u2) X Y) := sorry
theorem wS_35 (h0 : wtE s k Γ st nl X ∧ isEx X ∧ wtFt s k (rTy X) 6959884 ∧ ¬ rTy X = 1) : wtS s k Γ st nl mt (rn (rb 35 wh va pl sl ty u1 u2) X Y) := sorry
theorem wS_36 (h0 : wtS s k Γ st nl mt X ∧ wtS s k Γ st nl mt Y ∧ (30 ≤ rOp X ∧ ¬ rOp X = 41) ∧ (30 ≤ rOp Y ∧ ¬ rOp Y = 41) ∧ u1 < nUk s k ∧ uSo s k u1 = 15 ∧ uTi s k u1 = ty ∧ Γ sl = ty ∧ sl < nl ∧ (st = false → ¬ sl = 0)) : wtS s k Γ st nl mt (rn (rb 36 wh va pl sl ty u1 u2) X Y) := sorry
theorem wS_37 (h0 : wtE s k Γ st nl X ∧ isEx X) : wtS s k Γ st nl mt (rn (rb 37 wh va pl sl ty u1 u2) X Y) := sorry
theorem wS_38 (h0 : st = false ∧ (¬ wh = 0 → wtE s k Γ st nl X ∧ isRo X ∧ u1 < nUk s k ∧ uSo s k u1 = 2 ∧ uTi s k u1 = s.L 1107 k 0 ∧ s.B 1102 k 0 = false ∧ wtRw s k (rTyL X) (uPm s k u1))) : wtS s k Γ st nl mt (rn (rb 38 wh va pl sl ty u1 u2) X Y) := sorry
theorem wS_39 (h0 : wtE s k Γ st nl X ∧ isE1 X ∧ (wh = 0 ↔ rTy X = 0)) : wtS s k Γ st nl mt (rn (rb 39 wh va pl sl ty u1 u2) X Y) := sorry
theorem wS_40 (h0 : wtE s k Γ st nl Y ∧ isEx Y ∧ sl < nl ∧ wtFt s k (rTy Y) (Γ sl) ∧ (st = false → ¬ sl = 0)) : wtS s k Γ st nl mt (rn (rb 40 wh va pl sl ty u1 u2) X Y) := sorry
theorem wS_42 (h0 : wtE s k Γ st nl Y ∧ isEx Y ∧ u1 < nUk s k ∧ uSo s k u1 = 6 ∧ wtFt s k (rTy Y) (uTy s k u1)) : wtS s k Γ st nl mt (rn (rb 42 wh va pl sl ty u1 u2) X Y) := sorry
theorem wS_43 (h0 : st = false ∧ wtE s k Γ st nl Y ∧ isEx Y ∧ u1 < nUk s k ∧ uSo s k u1 = 4 ∧ uTi s k u1 = s.L 1100 k 0 ∧ wtFt s k (rTy Y) (uTy s k u1)) : wtS s k Γ st nl mt (rn (rb 43 wh va pl sl ty u1 u2) X Y) := sorry
theorem wS_44 (h0 : wtE s k Γ st nl X ∧ isEx X ∧ wtE s k Γ st nl Y ∧ isEx Y ∧ u1 < nUk s k ∧ uSo s k u1 = 4 ∧ uTi s k u1 = rTy X ∧ wtFt s k (rTy Y) (uTy s k u1) ∧ ¬ rTy X = 1) : wtS s k Γ st nl mt (rn (rb 44 wh va pl sl ty u1 u2) X Y) := sorry
end WSN
theorem wt_m0 {sz : Nat} {b : Lb} {u : Unit} {x y : Tr} {m w a e : Nat} (hm : m = 0 ∨ m = 1 ∨ m = 5) (hw : wt (.inner sz b u x y) m w a e) (h0 : ¬ b.1 = 0) : wt (.inner sz b u x y) 0 w a e := sorry
