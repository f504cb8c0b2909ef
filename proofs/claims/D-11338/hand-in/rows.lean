section
/-- the operators that the law feeds -/
def qm_op (op : Int32) : Prop := op = 7 ∨ op = 8 ∨ op = 9 ∨ op = 11 ∨ op = 12
/-- what LATELY and STEADY keep: the last event that counts -/
def qm_l (op x t ls : Int32) : Int32 := if op = 11 then (if x = 1 then t.toInt16.toInt32 else ls) else if op = 12 then (if x = 0 then t.toInt16.toInt32 else ls) else ls
/-- what ONCE and ALWAYS keep -/
def qm_m (op x me : Int32) : Int32 := if op = 8 then (me ||| x) &&& 1 else if op = 9 then (me &&& x) &&& 1 else me
/-- the formula's value at event t -/
def qm_v (op w x t pv me ls : Int32) : Int32 :=
  if op = 7 then (if t ≤ 0 then 0 else if pv &&& 1 = 0 then 0 else 1)
  else if op = 8 then (me ||| x) &&& 1
  else if op = 9 then (me &&& x) &&& 1
  else if op = 11 then (if qm_l op x t ls < 0 ∨ w < t - qm_l op x t ls then 0 else 1)
  else (if qm_l op x t ls < 0 ∨ w < t - qm_l op x t ls then 1 else 0)
/-- the word of truths with the bit of event t -/
def qm_wd (wd : Int64) (r t : Int32) : Int64 := if r = 0 then wd &&& (((1 : Int64) <<< ((t &&& 63).toInt64 &&& 63)) ^^^ (-1)) else wd ||| ((1 : Int64) <<< ((t &&& 63).toInt64 &&& 63))
/-- the bit of event p -/
def qm_tr (wd : Int64) (p : Int32) : Int32 := if (((wd.toUInt64 >>> ((p &&& 63).toInt64.toUInt64 &&& Int64.toUInt64 63)).toInt64) &&& 1) = 0 then 0 else 1
def qm_m0 (op : Int32) : Int32 := if op = 9 then 1 else 0
def qm_m1 (op a : Int32) : Int32 := qm_m op a (qm_m0 op)
def qm_m2 (op a b : Int32) : Int32 := qm_m op b (qm_m1 op a)
def qm_l1 (op a : Int32) : Int32 := qm_l op a 0 (-1)
def qm_l2 (op a b : Int32) : Int32 := qm_l op b 1 (qm_l1 op a)
/-- the word after the three events a, b, c -/
def qm_W (op w a b c : Int32) : Int64 :=
  qm_wd (qm_wd (qm_wd 0 (qm_v op w a 0 0 (qm_m0 op) (-1)) 0) (qm_v op w b 1 a (qm_m1 op a) (qm_l1 op a)) 1) (qm_v op w c 2 b (qm_m2 op a b) (qm_l2 op a b)) 2
theorem qm_and1 (y : Int32) : (y &&& 1) &&& 1 = y &&& 1 := by
  rw [Int32.and_assoc]
  exact congrArg (y &&& ·) (by decide)
theorem qm_v1 (op w x t pv me ls : Int32) : qm_v op w x t pv me ls &&& 1 = qm_v op w x t pv me ls := by
  unfold qm_v
  split
  · split
    · decide
    · split <;> decide
  · split
    · exact qm_and1 _
    · split
      · exact qm_and1 _
      · split
        · split <;> decide
        · split <;> decide
theorem qm_nb (y : Int32) (h : y &&& 1 = y) : narrow .boolean (.int y) = .int y := congrArg Value.int h
theorem qm_vb (y : Int32) (h : y &&& 1 = y) : vp_nar .boolean y = y := h
theorem qm_trb (wd : Int64) (p : Int32) : qm_tr wd p &&& 1 = qm_tr wd p := by
  unfold qm_tr
  split <;> decide
theorem qm_01 {x : Int32} (h : x = 0 ∨ x = 1) : x &&& 1 = x := by
  rcases h with rfl | rfl <;> decide
/-- what the law asks at its end -/
def qm_fin (x3 x6 x7 x8 z0 r1 r2 r3 : Int32) : Prop :=
  ((x6 = 8 → (wL_lawOf_177 (fun r _ => r = 1) 92 1472 x3 x6 x7 x8 z0 r1 r2 r3 (1 + 13) (18 + 362))) ∧ (¬ x6 = 8 → (((x6 = 9 → (wL_lawOf_177 (fun r _ => r = 1) 92 1472 x3 x6 x7 x8 z0 r1 r2 r3 (1 + 13) (18 + 362))) ∧ (¬ x6 = 9 → (((x6 < 11 → (wL_lawOf_183 (fun r _ => r = 1) 92 1472 x3 x6 x7 x8 z0 r1 r2 r3 0 (1 + 13) (18 + 362))) ∧ (¬ x6 < 11 → (wL_lawOf_177 (fun r _ => r = 1) 92 1472 x3 x6 x7 x8 z0 r1 r2 r3 (1 + 13) (18 + 362))))))))))
def qm_Di {c A B : Prop} (i : Decidable c) (a : Decidable A) (b : Decidable B) : Decidable ((c → A) ∧ (¬ c → B)) := inferInstance
def qm_D514 (mc ms : Nat) (z0 : Int32) (z1 : Int32) (z2 : Int32) (kc : Nat) (ks : Nat) : Decidable (wL_lawOf_514 (fun r _ => r = 1) mc ms z0 z1 z2 kc ks) := by
  delta wL_lawOf_514
  repeat' first | refine qm_Di inferInstance ?_ ?_ | exact inferInstance
def qm_D503 (mc ms : Nat) (x17 : Int32) (z0 : Int32) (z1 : Int32) (z2 : Int32) (kc : Nat) (ks : Nat) : Decidable (wL_lawOf_503 (fun r _ => r = 1) mc ms x17 z0 z1 z2 kc ks) := by
  delta wL_lawOf_503
  repeat' first | exact qm_D514 .. | refine qm_Di inferInstance ?_ ?_ | exact inferInstance
def qm_D493 (mc ms : Nat) (x16 : Int32) (x17 : Int32) (z0 : Int32) (z1 : Int32) (kc : Nat) (ks : Nat) : Decidable (wL_lawOf_493 (fun r _ => r = 1) mc ms x16 x17 z0 z1 kc ks) := by
  delta wL_lawOf_493
  repeat' first | exact qm_D503 .. | refine qm_Di inferInstance ?_ ?_ | exact inferInstance
def qm_D465 (mc ms : Nat) (x10 : Int32) (x11 : Int32) (x12 : Int32) (x13 : Int32) (x16 : Int32) (z0 : Int32) (kc : Nat) (ks : Nat) : Decidable (wL_lawOf_465 (fun r _ => r = 1) mc ms x10 x11 x12 x13 x16 z0 kc ks) := by
  delta wL_lawOf_465
  repeat' first | exact qm_D493 .. | refine qm_Di inferInstance ?_ ?_ | exact inferInstance
def qm_D464 (mc ms : Nat) (x10 : Int32) (x11 : Int32) (x12 : Int32) (x13 : Int32) (x16 : Int32) (kc : Nat) (ks : Nat) : Decidable (wL_lawOf_464 (fun r _ => r = 1) mc ms x10 x11 x12 x13 x16 kc ks) := by
  delta wL_lawOf_464
  repeat' first | exact qm_D465 .. | refine qm_Di inferInstance ?_ ?_ | exact inferInstance
def qm_D460 (mc ms : Nat) (x10 : Int32) (x11 : Int32) (x12 : Int32) (x13 : Int32) (x16 : Int32) (kc : Nat) (ks : Nat) : Decidable (wL_lawOf_460 (fun r _ => r = 1) mc ms x10 x11 x12 x13 x16 kc ks) := by
  delta wL_lawOf_460
  repeat' first | exact qm_D465 .. | refine qm_Di inferInstance ?_ ?_ | exact inferInstance
def qm_D450 (mc ms : Nat) (x7 : Int32) (x10 : Int32) (x11 : Int32) (x12 : Int32) (x13 : Int32) (x14 : Int32) (x16 : Int32) (kc : Nat) (ks : Nat) : Decidable (wL_lawOf_450 (fun r _ => r = 1) mc ms x7 x10 x11 x12 x13 x14 x16 kc ks) := by
  delta wL_lawOf_450
  repeat' first | exact qm_D460 .. | exact qm_D464 .. | refine qm_Di inferInstance ?_ ?_ | exact inferInstance
def qm_D427 (mc ms : Nat) (x10 : Int32) (x11 : Int32) (x12 : Int32) (x13 : Int32) (x16 : Int32) (kc : Nat) (ks : Nat) : Decidable (wL_lawOf_427 (fun r _ => r = 1) mc ms x10 x11 x12 x13 x16 kc ks) := by
  delta wL_lawOf_427
  repeat' first | exact qm_D465 .. | refine qm_Di inferInstance ?_ ?_ | exact inferInstance
def qm_D431 (mc ms : Nat) (x10 : Int32) (x11 : Int32) (x12 : Int32) (x13 : Int32) (x16 : Int32) (kc : Nat) (ks : Nat) : Decidable (wL_lawOf_431 (fun r _ => r = 1) mc ms x10 x11 x12 x13 x16 kc ks) := by
  delta wL_lawOf_431
  repeat' first | exact qm_D465 .. | refine qm_Di inferInstance ?_ ?_ | exact inferInstance
def qm_D417 (mc ms : Nat) (x7 : Int32) (x10 : Int32) (x11 : Int32) (x12 : Int32) (x13 : Int32) (x14 : Int32) (x16 : Int32) (kc : Nat) (ks : Nat) : Decidable (wL_lawOf_417 (fun r _ => r = 1) mc ms x7 x10 x11 x12 x13 x14 x16 kc ks) := by
  delta wL_lawOf_417
  repeat' first | exact qm_D431 .. | exact qm_D427 .. | refine qm_Di inferInstance ?_ ?_ | exact inferInstance
def qm_D391 (mc ms : Nat) (x10 : Int32) (x11 : Int32) (x12 : Int32) (x13 : Int32) (x16 : Int32) (kc : Nat) (ks : Nat) : Decidable (wL_lawOf_391 (fun r _ => r = 1) mc ms x10 x11 x12 x13 x16 kc ks) := by
  delta wL_lawOf_391
  repeat' first | exact qm_D465 .. | refine qm_Di inferInstance ?_ ?_ | exact inferInstance
def qm_D357 (mc ms : Nat) (x10 : Int32) (x11 : Int32) (x12 : Int32) (x13 : Int32) (x16 : Int32) (kc : Nat) (ks : Nat) : Decidable (wL_lawOf_357 (fun r _ => r = 1) mc ms x10 x11 x12 x13 x16 kc ks) := by
  delta wL_lawOf_357
  repeat' first | exact qm_D465 .. | refine qm_Di inferInstance ?_ ?_ | exact inferInstance
def qm_D321 (mc ms : Nat) (x6 : Int32) (x7 : Int32) (x8 : Int32) (x9 : Int32) (x10 : Int32) (x11 : Int32) (x12 : Int32) (x13 : Int32) (x14 : Int32) (x15 : Int32) (z0 : Int32) (kc : Nat) (ks : Nat) : Decidable (wL_lawOf_321 (fun r _ => r = 1) mc ms x6 x7 x8 x9 x10 x11 x12 x13 x14 x15 z0 kc ks) := by
  delta wL_lawOf_321
  repeat' first | exact qm_D465 .. | exact qm_D357 .. | exact qm_D391 .. | exact qm_D417 .. | exact qm_D427 .. | exact qm_D464 .. | exact qm_D450 .. | refine qm_Di inferInstance ?_ ?_ | exact inferInstance
def qm_D320 (mc ms : Nat) (x6 : Int32) (x7 : Int32) (x8 : Int32) (x9 : Int32) (x10 : Int32) (x11 : Int32) (x12 : Int32) (x13 : Int32) (x14 : Int32) (x15 : Int32) (kc : Nat) (ks : Nat) : Decidable (wL_lawOf_320 (fun r _ => r = 1) mc ms x6 x7 x8 x9 x10 x11 x12 x13 x14 x15 kc ks) := by
  delta wL_lawOf_320
  repeat' first | exact qm_D321 .. | refine qm_Di inferInstance ?_ ?_ | exact inferInstance
def qm_D316 (mc ms : Nat) (x6 : Int32) (x7 : Int32) (x8 : Int32) (x9 : Int32) (x10 : Int32) (x11 : Int32) (x12 : Int32) (x13 : Int32) (x14 : Int32) (x15 : Int32) (kc : Nat) (ks : Nat) : Decidable (wL_lawOf_316 (fun r _ => r = 1) mc ms x6 x7 x8 x9 x10 x11 x12 x13 x14 x15 kc ks) := by
  delta wL_lawOf_316
  repeat' first | exact qm_D321 .. | refine qm_Di inferInstance ?_ ?_ | exact inferInstance
def qm_D293 (mc ms : Nat) (x6 : Int32) (x7 : Int32) (x8 : Int32) (x9 : Int32) (x10 : Int32) (x11 : Int32) (x12 : Int32) (x13 : Int32) (x14 : Int32) (x15 : Int32) (kc : Nat) (ks : Nat) : Decidable (wL_lawOf_293 (fun r _ => r = 1) mc ms x6 x7 x8 x9 x10 x11 x12 x13 x14 x15 kc ks) := by
  delta wL_lawOf_293
  repeat' first | exact qm_D321 .. | refine qm_Di inferInstance ?_ ?_ | exact inferInstance
def qm_D297 (mc ms : Nat) (x6 : Int32) (x7 : Int32) (x8 : Int32) (x9 : Int32) (x10 : Int32) (x11 : Int32) (x12 : Int32) (x13 : Int32) (x14 : Int32) (x15 : Int32) (kc : Nat) (ks : Nat) : Decidable (wL_lawOf_297 (fun r _ => r = 1) mc ms x6 x7 x8 x9 x10 x11 x12 x13 x14 x15 kc ks) := by
  delta wL_lawOf_297
  repeat' first | exact qm_D321 .. | refine qm_Di inferInstance ?_ ?_ | exact inferInstance
def qm_D267 (mc ms : Nat) (x6 : Int32) (x7 : Int32) (x8 : Int32) (x9 : Int32) (x10 : Int32) (x11 : Int32) (x12 : Int32) (x13 : Int32) (x14 : Int32) (x15 : Int32) (kc : Nat) (ks : Nat) : Decidable (wL_lawOf_267 (fun r _ => r = 1) mc ms x6 x7 x8 x9 x10 x11 x12 x13 x14 x15 kc ks) := by
  delta wL_lawOf_267
  repeat' first | exact qm_D321 .. | refine qm_Di inferInstance ?_ ?_ | exact inferInstance
def qm_D238 (mc ms : Nat) (x6 : Int32) (x7 : Int32) (x8 : Int32) (x9 : Int32) (x10 : Int32) (x11 : Int32) (x12 : Int32) (x13 : Int32) (x14 : Int32) (x15 : Int32) (kc : Nat) (ks : Nat) : Decidable (wL_lawOf_238 (fun r _ => r = 1) mc ms x6 x7 x8 x9 x10 x11 x12 x13 x14 x15 kc ks) := by
  delta wL_lawOf_238
  repeat' first | exact qm_D321 .. | refine qm_Di inferInstance ?_ ?_ | exact inferInstance
def qm_D207 (mc ms : Nat) (x6 : Int32) (x7 : Int32) (x8 : Int32) (x9 : Int32) (x10 : Int32) (x11 : Int32) (x12 : Int32) (x13 : Int32) (x14 : Int32) (z0 : Int32) (kc : Nat) (ks : Nat) : Decidable (wL_lawOf_207 (fun r _ => r = 1) mc ms x6 x7 x8 x9 x10 x11 x12 x13 x14 z0 kc ks) := by
  delta wL_lawOf_207
  repeat' first | exact qm_D321 .. | exact qm_D238 .. | exact qm_D267 .. | exact qm_D297 .. | exact qm_D293 .. | exact qm_D320 .. | exact qm_D316 .. | refine qm_Di inferInstance ?_ ?_ | exact inferInstance
def qm_D195 (mc ms : Nat) (x3 : Int32) (x6 : Int32) (x7 : Int32) (x8 : Int32) (x9 : Int32) (x10 : Int32) (x11 : Int32) (x12 : Int32) (x13 : Int32) (z0 : Int32) (kc : Nat) (ks : Nat) : Decidable (wL_lawOf_195 (fun r _ => r = 1) mc ms x3 x6 x7 x8 x9 x10 x11 x12 x13 z0 kc ks) := by
  delta wL_lawOf_195
  repeat' first | exact qm_D207 .. | refine qm_Di inferInstance ?_ ?_ | exact inferInstance
def qm_D183 (mc ms : Nat) (x3 : Int32) (x6 : Int32) (x7 : Int32) (x8 : Int32) (x9 : Int32) (x10 : Int32) (x11 : Int32) (x12 : Int32) (z0 : Int32) (kc : Nat) (ks : Nat) : Decidable (wL_lawOf_183 (fun r _ => r = 1) mc ms x3 x6 x7 x8 x9 x10 x11 x12 z0 kc ks) := by
  delta wL_lawOf_183
  repeat' first | exact qm_D195 .. | refine qm_Di inferInstance ?_ ?_ | exact inferInstance
def qm_D177 (mc ms : Nat) (x3 : Int32) (x6 : Int32) (x7 : Int32) (x8 : Int32) (x9 : Int32) (x10 : Int32) (x11 : Int32) (x12 : Int32) (kc : Nat) (ks : Nat) : Decidable (wL_lawOf_177 (fun r _ => r = 1) mc ms x3 x6 x7 x8 x9 x10 x11 x12 kc ks) := by
  delta wL_lawOf_177
  repeat' first | exact qm_D183 .. | refine qm_Di inferInstance ?_ ?_ | exact inferInstance
def qm_Df (x3 x6 x7 x8 z0 r1 r2 r3 : Int32) : Decidable (qm_fin x3 x6 x7 x8 z0 r1 r2 r3) := by
  delta qm_fin
  repeat' first | exact qm_D177 .. | exact qm_D183 .. | refine qm_Di inferInstance ?_ ?_
def qm_cn (wd : Int64) : Int32 := 0 + qm_tr wd 0 + qm_tr wd (0 + 1) + qm_tr wd (0 + 1 + 1)
def qm_ok (w op a b c : Int32) : Bool := @decide _ (qm_Df w op a b c (qm_tr (qm_W op w a b c) (3 - 1)) (qm_tr (qm_W op w a b c) 1) (qm_cn (qm_W op w a b c)))
theorem qm_all : ∀ w, w < 3 → ∀ j, j < 8 → (qm_ok (nI w) 7 (nI (j % 2)) (nI (j / 2 % 2)) (nI (j / 4)) && qm_ok (nI w) 8 (nI (j % 2)) (nI (j / 2 % 2)) (nI (j / 4)) && qm_ok (nI w) 9 (nI (j % 2)) (nI (j / 2 % 2)) (nI (j / 4)) && qm_ok (nI w) 11 (nI (j % 2)) (nI (j / 2 % 2)) (nI (j / 4)) && qm_ok (nI w) 12 (nI (j % 2)) (nI (j / 2 % 2)) (nI (j / 4))) = true := by
  decide +kernel
theorem qm_fine {w j : Nat} (hw : w < 3) (hj : j < 8) {op : Int32} (ho : qm_op op) : qm_fin (nI w) op (nI (j % 2)) (nI (j / 2 % 2)) (nI (j / 4)) (qm_tr (qm_W op (nI w) (nI (j % 2)) (nI (j / 2 % 2)) (nI (j / 4))) (3 - 1)) (qm_tr (qm_W op (nI w) (nI (j % 2)) (nI (j / 2 % 2)) (nI (j / 4))) 1) (qm_cn (qm_W op (nI w) (nI (j % 2)) (nI (j / 2 % 2)) (nI (j / 4)))) := by
  have h := qm_all w hw j hj
  simp only [Bool.and_eq_true] at h
  obtain ⟨⟨⟨⟨h7, h8⟩, h9⟩, h11⟩, h12⟩ := h
  rcases ho with rfl | rfl | rfl | rfl | rfl
  · exact @of_decide_eq_true _ (qm_Df ..) h7
  · exact @of_decide_eq_true _ (qm_Df ..) h8
  · exact @of_decide_eq_true _ (qm_Df ..) h9
  · exact @of_decide_eq_true _ (qm_Df ..) h11
  · exact @of_decide_eq_true _ (qm_Df ..) h12
end
section
variable {w oc ct jd : Int32} {a1 a2 a3 a4 a5 : Nat → Int32} {a6 : Nat → Int64} {a7 a8 a9 a10 a11 a12 a13 : Nat → Int32}
theorem qm_c0 : (0 : Int32).toNatClampNeg = 0 := by decide
theorem qm_c1 : (1 : Int32).toNatClampNeg = 1 := by decide
theorem qm_c2 : (2 : Int32).toNatClampNeg = 2 := by decide
theorem qm_c01 : ((0 : Int32) + 1).toNatClampNeg = 1 := by decide
theorem qm_w1 {P : Int32 → Prop} {x op : Int32} (hx : x = op) (ho : qm_op op) (h : P 1) : wpX_wants P () x := by
  subst hx
  have n5 : ¬ x = 5 := by rcases ho with rfl | rfl | rfl | rfl | rfl <;> decide
  have n6 : ¬ x = 6 := by rcases ho with rfl | rfl | rfl | rfl | rfl <;> decide
  have n10 : ¬ x = 10 := by rcases ho with rfl | rfl | rfl | rfl | rfl <;> decide
  have n4 : 4 ≤ x := by rcases ho with rfl | rfl | rfl | rfl | rfl <;> decide
  exact br_f n5 (br_f n6 (br_f n10 (br_t n4 h)))
theorem qm_w0 {P : Int32 → Prop} {x : Int32} (hx : x = 0) (h : P 0) : wpX_wants P () x := by
  subst hx
  exact br_f (by decide) (br_f (by decide) (br_f (by decide) (br_f (by decide) h)))
theorem qm_cp0 {post : Int32 → St2 → Prop} (H : post 0 (w, 0, 0, ct, jd, a1, a2, a3, a4, a5, a6, a7, a8, a9, a10, a11, a12, a13)) : wpX_complete post (w, 0, oc, ct, jd, a1, a2, a3, a4, a5, a6, a7, a8, a9, a10, a11, a12, a13) :=
  ⟨0 + 1, br_t (by decide) (br_t (by decide) H)⟩
theorem qm_cp1 {post : Int32 → St2 → Prop} {op : Int32} (ho : qm_op op) (h0 : a1 0 = op) (H : ∀ b3 b4, post 0 (w, 1, 1, ct, jd, a1, a2, b3, b4, a5, a6, a7, a8, a9, a10, a11, a12, a13)) : wpX_complete post (w, 1, oc, ct, jd, a1, a2, a3, a4, a5, a6, a7, a8, a9, a10, a11, a12, a13) :=
  ⟨0 + 1 + 1, br_f (by decide) (br_t (by decide) ⟨pk_in 0 14 (by omega), qm_w1 (by rw [qm_c0]; exact h0) ho (br_f (by decide) ⟨pk_in 0 16 (by omega), nm_e ⟨pk_in 0 16 (by omega), nm_e (nm_r (e' := 1) (by decide) (nm_r (e' := 1) (by decide)
    (br_t (by decide) (br_f (by decide) (br_f (by decide) (H _ _))))))⟩⟩)⟩)⟩
theorem qm_cp2 {post : Int32 → St2 → Prop} {op : Int32} (ho : qm_op op) (h0 : a1 0 = op) (h1 : a1 1 = 0) (H : ∀ b3 b4, post 1 (w, 2, 0, ct, jd, a1, a2, b3, b4, a5, a6, a7, a8, a9, a10, a11, a12, a13)) : wpX_complete post (w, 2, oc, ct, jd, a1, a2, a3, a4, a5, a6, a7, a8, a9, a10, a11, a12, a13) :=
  ⟨0 + 1 + 1 + 1, br_f (by decide) (br_t (by decide) ⟨pk_in 0 14 (by omega), qm_w1 (by rw [qm_c0]; exact h0) ho (br_f (by decide) ⟨pk_in 0 16 (by omega), nm_e ⟨pk_in 0 16 (by omega), nm_e (nm_r (e' := 1) (by decide) (nm_r (e' := 1) (by decide)
    (br_f (by decide) (br_f (by decide) (nm_r (e' := 0) (by decide) ⟨pk_in 0 16 (by omega), br_t (by rw [pk_us]; decide) ⟨pk_in 0 16 (by omega), pk_in 0 16 (by omega), nm_e ⟨pk_in 0 16 (by omega), br_t (by rw [pk_us, pk_us]; decide) (nm_r (e' := 0) (by decide)
      ⟨pk_in 1 14 (by omega), qm_w0 (by rw [qm_c1]; exact h1) (br_t (by decide) (nm_r (e' := 2) (by decide)
        (br_t (by decide) (br_f (by decide) (br_t (by decide) (H _ _))))))⟩)⟩⟩⟩)))))⟩⟩)⟩)⟩
theorem qm_fd0 {post : Int32 → St2 → Prop} {op : Int32} (ho : qm_op op) (H : ∀ r b1, b1 0 = op → post r (w, 1, 0, ct, 0, b1, a2, a3, a4, a5, a6, a7, a8, a9, a10, a11, a12, a13)) : wpX_feed post (w, 0, oc, ct, jd, a1, a2, a3, a4, a5, a6, a7, a8, a9, a10, a11, a12, a13) op := by
  have n0 : ¬ op < 0 := by rcases ho with rfl | rfl | rfl | rfl | rfl <;> decide
  have n12 : ¬ 12 < op := by rcases ho with rfl | rfl | rfl | rfl | rfl <;> decide
  have e : op.toInt8.toInt32 = op := by rcases ho with rfl | rfl | rfl | rfl | rfl <;> decide
  exact br_f n0 (br_f n12 (br_f (by decide) (qm_cp0 (br_t rfl ⟨pk_in 0 14 (by omega), nm_e (nm_r (e' := 1) (by decide) (H _ _ (by rw [qm_c0, pk_us]; exact e)))⟩))))
theorem qm_fd1 {post : Int32 → St2 → Prop} {op : Int32} (ho : qm_op op) (h0 : a1 0 = op) (H : ∀ r b1 b3 b4, b1 0 = op → b1 1 = 0 → post r (w, 2, 1, ct, 0, b1, a2, b3, b4, a5, a6, a7, a8, a9, a10, a11, a12, a13)) : wpX_feed post (w, 1, oc, ct, jd, a1, a2, a3, a4, a5, a6, a7, a8, a9, a10, a11, a12, a13) 0 :=
  br_f (by decide) (br_f (by decide) (br_f (by decide) (qm_cp1 ho h0 (fun b3 b4 => br_t rfl ⟨pk_in 1 14 (by omega), nm_e (nm_r (e' := 2) (by decide) (H _ _ _ _ (by rw [qm_c1, pk_un (by decide)]; exact h0) (by rw [qm_c1, pk_us]; decide)))⟩))))
theorem qm_ev {post : Int32 → St2 → Prop} {sz x c' : Int32} (k : Nat) (hk : ct = nI k) (hk2 : k < 200) (hc : ct + 1 = c') (hx : x = 0 ∨ x = 1) (H : ∀ r b5, b5 k = x → (∀ j, j ≠ k → b5 j = a5 j) → post r (w, sz, oc, c', jd, a1, a2, a3, a4, b5, a6, a7, a8, a9, a10, a11, a12, a13)) : wpX_event post (w, sz, oc, ct, jd, a1, a2, a3, a4, a5, a6, a7, a8, a9, a10, a11, a12, a13) x := by
  have e : x.toInt8.toInt32 = x := by rcases hx with rfl | rfl <;> decide
  have n0 : ¬ x < 0 := by rcases hx with rfl | rfl <;> decide
  have n15 : x ≤ 15 := by rcases hx with rfl | rfl <;> decide
  have ek : ct.toNatClampNeg = k := pk_cl k hk
  exact br_f n0 (br_t n15 (br_t (by rw [hk]; exact nI_lt (b := 200) hk2 (by decide)) ⟨pk_in k 200 hk2 hk, nm_e (nm_r hc (H _ _ (by rw [ek, pk_us]; exact e) (fun j hj => by rw [ek, pk_un hj])))⟩))
theorem qm_bgi {f g h m : Nat → Int32} {v : Int32} {i : Nat} (hi : i < 14) (K : ∀ j, j < i → f j = 0 ∧ g j = m j ∧ h j = -1) (hv : v = m i) : ∀ j, j < i + 1 → upd f (nI i).toNatClampNeg 0 j = 0 ∧ upd g (nI i).toNatClampNeg v j = m j ∧ upd h (nI i).toNatClampNeg (-1) j = -1 := by
  intro j hj
  rw [nI_clamp (by omega)]
  by_cases e : j = i
  · subst e
    rw [pk_us, pk_us, pk_us]
    exact ⟨rfl, hv, rfl⟩
  · rw [pk_un e, pk_un e, pk_un e]
    exact K j (by omega)
theorem qm_bg {post : St2 → Prop} {sz : Int32} (H : ∀ b7 b9 b10, (∀ j, j < 14 → b7 j = 0 ∧ b9 j = qm_m0 (a1 j) ∧ b10 j = -1) → post (w, sz, oc, ct, jd, a1, a2, a3, a4, a5, a6, b7, a8, b9, b10, a11, a12, a13)) : wpX_begin post (w, sz, oc, ct, jd, a1, a2, a3, a4, a5, a6, a7, a8, a9, a10, a11, a12, a13) :=
  pk_loop (fun n i (s : (Nat → Int32) × (Nat → Int32) × (Nat → Int32)) => wX_begin_2 post w sz oc ct jd n (nI i) a1 a2 a3 a4 a5 a6 s.1 a8 s.2.1 s.2.2 a11 a12 a13) (fun i s => ∀ j, j < i → s.1 j = 0 ∧ s.2.1 j = qm_m0 (a1 j) ∧ s.2.2 j = -1) 14 0 (a7, a9, a10) (by omega) (fun j hj => absurd hj (by omega))
    (fun n s h => pk_le 14 14 (fun _ => H s.1 s.2.1 s.2.2 h) (fun z => absurd z (by omega)))
    (fun n i s hi h hw => pk_le 14 i (fun z => absurd z (by omega)) (fun _ => ⟨pk_in i 14 hi, nm_e ⟨pk_in i 14 hi,
      br_c (fun e => ⟨pk_in i 14 hi, nm_e ⟨pk_in i 14 hi, nm_e (nm_r (nI_1 i) (hw (upd s.1 (nI i).toNatClampNeg 0, upd s.2.1 (nI i).toNatClampNeg (vp_nar .boolean 1), upd s.2.2 (nI i).toNatClampNeg (-1)) (qm_bgi hi h (by unfold qm_m0; rw [nI_clamp (by omega)] at e; rw [if_pos e]; decide))))⟩⟩)
        (fun e => ⟨pk_in i 14 hi, nm_e ⟨pk_in i 14 hi, nm_e (nm_r (nI_1 i) (hw (upd s.1 (nI i).toNatClampNeg 0, upd s.2.1 (nI i).toNatClampNeg (vp_nar .boolean 0), upd s.2.2 (nI i).toNatClampNeg (-1)) (qm_bgi hi h (by unfold qm_m0; rw [nI_clamp (by omega)] at e; rw [if_neg e]; decide))))⟩⟩)⟩⟩))
theorem qm_p1 {post : Int32 → St2 → Prop} {sz x t : Int32} (h1 : a1 1 = 0) (hx : x = 0 ∨ x = 1) (H : post x (w, sz, oc, ct, jd, a1, a2, a3, a4, a5, a6, a7, a8, a9, a10, a11, a12, a13)) : wpX_partAt post (w, sz, oc, ct, jd, a1, a2, a3, a4, a5, a6, a7, a8, a9, a10, a11, a12, a13) 1 x t := by
  refine ⟨pk_in 1 14 (by omega), nm_r (e' := 0) (by rw [qm_c1]; exact h1) (br_f (by decide) ?_)⟩
  rcases hx with rfl | rfl
  · exact br_t (by decide) H
  · exact br_f (by decide) H
theorem qm_46 {post : Int32 → St2 → Prop} {sz t l : Int32} (h10 : a10 0 = l) (H0 : (l < 0 ∨ w < t - l) → post 0 (w, sz, oc, ct, jd, a1, a2, a3, a4, a5, a6, a7, a8, a9, a10, a11, a12, a13)) (H1 : ¬ (l < 0 ∨ w < t - l) → post 1 (w, sz, oc, ct, jd, a1, a2, a3, a4, a5, a6, a7, a8, a9, a10, a11, a12, a13)) : wX_remembering_46 post 0 t 11 w sz oc ct jd a1 a2 a3 a4 a5 a6 a7 a8 a9 a10 a11 a12 a13 := by
  unfold wX_remembering_46
  rw [qm_c0, h10]
  exact ⟨pk_in 0 14 (by omega), br_c (fun e => br_t rfl (br_f (by decide) (H0 (Or.inl e)))) (fun e => ⟨pk_in 0 14 (by omega), br_c (fun g => br_t rfl (br_f (by decide) (H0 (Or.inr g)))) (fun g => br_t rfl (br_t rfl (H1 (fun z => z.elim e g))))⟩)⟩
theorem qm_46' {post : Int32 → St2 → Prop} {sz t l : Int32} (h10 : a10 0 = l) (H0 : (l < 0 ∨ w < t - l) → post 1 (w, sz, oc, ct, jd, a1, a2, a3, a4, a5, a6, a7, a8, a9, a10, a11, a12, a13)) (H1 : ¬ (l < 0 ∨ w < t - l) → post 0 (w, sz, oc, ct, jd, a1, a2, a3, a4, a5, a6, a7, a8, a9, a10, a11, a12, a13)) : wX_remembering_46 post 0 t 12 w sz oc ct jd a1 a2 a3 a4 a5 a6 a7 a8 a9 a10 a11 a12 a13 := by
  unfold wX_remembering_46
  rw [qm_c0, h10]
  exact ⟨pk_in 0 14 (by omega), br_c (fun e => br_f (by decide) (br_t rfl (H0 (Or.inl e)))) (fun e => ⟨pk_in 0 14 (by omega), br_c (fun g => br_f (by decide) (br_t rfl (H0 (Or.inr g)))) (fun g => br_f (by decide) (br_f (by decide) (H1 (fun z => z.elim e g))))⟩)⟩
theorem qm_r8 {post : Int32 → St2 → Prop} {sz x t pv me ls : Int32} (h9 : a9 0 = me) (h10 : a10 0 = ls) (h0 : a1 0 = 8) (H : ∀ r b9 b10, r = qm_v 8 w x t pv me ls → b9 0 = qm_m 8 x me → b10 0 = qm_l 8 x t ls → post r (w, sz, oc, ct, jd, a1, a2, a3, a4, a5, a6, a7, a8, b9, b10, a11, a12, a13)) : wpX_remembering post (w, sz, oc, ct, jd, a1, a2, a3, a4, a5, a6, a7, a8, a9, a10, a11, a12, a13) 0 x t :=
  ⟨pk_in 0 14 (by omega), nm_r (e' := 8) (by rw [qm_c0]; exact h0) (br_f (by decide) (br_f (by decide) (br_t rfl ⟨pk_in 0 14 (by omega), pk_in 0 14 (by omega), nm_r (by rw [qm_c0, h9]) ⟨pk_in 0 14 (by omega), qm_nb _ (by rw [qm_c0, pk_us]; exact qm_and1 _), H _ _ _ (by rw [qm_c0, pk_us]; rfl) (by rw [pk_us]; rfl) h10⟩⟩)))⟩
theorem qm_r9 {post : Int32 → St2 → Prop} {sz x t pv me ls : Int32} (h9 : a9 0 = me) (h10 : a10 0 = ls) (h0 : a1 0 = 9) (H : ∀ r b9 b10, r = qm_v 9 w x t pv me ls → b9 0 = qm_m 9 x me → b10 0 = qm_l 9 x t ls → post r (w, sz, oc, ct, jd, a1, a2, a3, a4, a5, a6, a7, a8, b9, b10, a11, a12, a13)) : wpX_remembering post (w, sz, oc, ct, jd, a1, a2, a3, a4, a5, a6, a7, a8, a9, a10, a11, a12, a13) 0 x t :=
  ⟨pk_in 0 14 (by omega), nm_r (e' := 9) (by rw [qm_c0]; exact h0) (br_f (by decide) (br_f (by decide) (br_f (by decide) (br_t rfl ⟨pk_in 0 14 (by omega), pk_in 0 14 (by omega), nm_r (by rw [qm_c0, h9]) ⟨pk_in 0 14 (by omega), qm_nb _ (by rw [qm_c0, pk_us]; exact qm_and1 _), H _ _ _ (by rw [qm_c0, pk_us]; rfl) (by rw [pk_us]; rfl) h10⟩⟩))))⟩
theorem qm_vA (w x t pv me ls : Int32) : qm_v 11 w x t pv me ls = if qm_l 11 x t ls < 0 ∨ w < t - qm_l 11 x t ls then 0 else 1 := by
  unfold qm_v
  rw [if_neg (by decide), if_neg (by decide), if_neg (by decide), if_pos rfl]
theorem qm_vB (w x t pv me ls : Int32) : qm_v 12 w x t pv me ls = if qm_l 12 x t ls < 0 ∨ w < t - qm_l 12 x t ls then 1 else 0 := by
  unfold qm_v
  rw [if_neg (by decide), if_neg (by decide), if_neg (by decide), if_neg (by decide)]
theorem qm_lA (x t ls : Int32) : qm_l 11 x t ls = if x = 1 then t.toInt16.toInt32 else ls := by
  unfold qm_l
  rw [if_pos rfl]
theorem qm_lB (x t ls : Int32) : qm_l 12 x t ls = if x = 0 then t.toInt16.toInt32 else ls := by
  unfold qm_l
  rw [if_neg (by decide), if_pos rfl]
theorem qm_r11 {post : Int32 → St2 → Prop} {sz x t pv me ls : Int32} (h9 : a9 0 = me) (h10 : a10 0 = ls) (h0 : a1 0 = 11) (H : ∀ r b9 b10, r = qm_v 11 w x t pv me ls → b9 0 = qm_m 11 x me → b10 0 = qm_l 11 x t ls → post r (w, sz, oc, ct, jd, a1, a2, a3, a4, a5, a6, a7, a8, b9, b10, a11, a12, a13)) : wpX_remembering post (w, sz, oc, ct, jd, a1, a2, a3, a4, a5, a6, a7, a8, a9, a10, a11, a12, a13) 0 x t := by
  refine ⟨pk_in 0 14 (by omega), nm_r (e' := 11) (by rw [qm_c0]; exact h0) (br_t rfl (br_t rfl (br_c (fun e => ⟨pk_in 0 14 (by omega), nm_r (by rw [qm_c0]) ?_⟩) (fun e => ?_))))⟩
  · have el : upd a10 0 t.toInt16.toInt32 0 = qm_l 11 x t ls := by rw [pk_us, qm_lA, if_pos e]
    exact qm_46 el (fun z => H _ _ _ (by rw [qm_vA, if_pos z]) h9 el) (fun z => H _ _ _ (by rw [qm_vA, if_neg z]) h9 el)
  · have el : a10 0 = qm_l 11 x t ls := by rw [h10, qm_lA, if_neg e]
    exact qm_46 el (fun z => H _ _ _ (by rw [qm_vA, if_pos z]) h9 el) (fun z => H _ _ _ (by rw [qm_vA, if_neg z]) h9 el)
theorem qm_r12 {post : Int32 → St2 → Prop} {sz x t pv me ls : Int32} (h9 : a9 0 = me) (h10 : a10 0 = ls) (h0 : a1 0 = 12) (H : ∀ r b9 b10, r = qm_v 12 w x t pv me ls → b9 0 = qm_m 12 x me → b10 0 = qm_l 12 x t ls → post r (w, sz, oc, ct, jd, a1, a2, a3, a4, a5, a6, a7, a8, b9, b10, a11, a12, a13)) : wpX_remembering post (w, sz, oc, ct, jd, a1, a2, a3, a4, a5, a6, a7, a8, a9, a10, a11, a12, a13) 0 x t := by
  refine ⟨pk_in 0 14 (by omega), nm_r (e' := 12) (by rw [qm_c0]; exact h0) (br_f (by decide) (br_t rfl (br_f (by decide) (br_c (fun e => ⟨pk_in 0 14 (by omega), nm_r (by rw [qm_c0]) ?_⟩) (fun e => ?_)))))⟩
  · have el : upd a10 0 t.toInt16.toInt32 0 = qm_l 12 x t ls := by rw [pk_us, qm_lB, if_pos e]
    exact qm_46' el (fun z => H _ _ _ (by rw [qm_vB, if_pos z]) h9 el) (fun z => H _ _ _ (by rw [qm_vB, if_neg z]) h9 el)
  · have el : a10 0 = qm_l 12 x t ls := by rw [h10, qm_lB, if_neg e]
    exact qm_46' el (fun z => H _ _ _ (by rw [qm_vB, if_pos z]) h9 el) (fun z => H _ _ _ (by rw [qm_vB, if_neg z]) h9 el)
theorem qm_p0 {post : Int32 → St2 → Prop} {sz op s x t pv me ls : Int32} (ho : qm_op op) (h0 : a1 0 = op) (h7 : a7 1 = x) (h8 : a8 1 = pv &&& 1) (h9 : a9 0 = me) (h10 : a10 0 = ls) (H : ∀ r b9 b10, r = qm_v op w x t pv me ls → b9 0 = qm_m op x me → b10 0 = qm_l op x t ls → post r (w, sz, oc, ct, jd, a1, a2, a3, a4, a5, a6, a7, a8, b9, b10, a11, a12, a13)) : wpX_partAt post (w, sz, oc, ct, jd, a1, a2, a3, a4, a5, a6, a7, a8, a9, a10, a11, a12, a13) 0 s t := by
  refine ⟨pk_in 0 14 (by omega), nm_r (e' := op) (by rw [qm_c0]; exact h0) ?_⟩
  have n4 : 4 ≤ op := by rcases ho with rfl | rfl | rfl | rfl | rfl <;> decide
  have m4 : ¬ op < 4 := by rcases ho with rfl | rfl | rfl | rfl | rfl <;> decide
  refine br_t n4 ⟨pk_in 1 14 (by omega), nm_r (e' := x) (by rw [qm_c01]; exact h7) (br_f m4 ?_)⟩
  rcases ho with rfl | rfl | rfl | rfl | rfl
  · refine br_f (by decide) (br_f (by decide) (br_f (by decide) (br_f (by decide) (br_t rfl ?_))))
    have hv : ∀ r : Int32, (r = if t ≤ 0 then 0 else if pv &&& 1 = 0 then 0 else 1) → r = qm_v 7 w x t pv me ls := by
      intro r hr
      unfold qm_v
      rw [if_pos rfl]
      exact hr
    refine br_c (fun e => H _ _ _ (hv _ (by rw [if_pos e])) h9 h10) (fun e => ⟨pk_in 1 14 (by omega), ?_⟩)
    rw [qm_c01, h8]
    exact br_c (fun g => H _ _ _ (hv _ (by rw [if_neg e, if_pos g])) h9 h10) (fun g => H _ _ _ (hv _ (by rw [if_neg e, if_neg g])) h9 h10)
  · exact br_t (by decide) (qm_r8 (pv := pv) h9 h10 h0 (fun r b9 b10 hr g9 g10 => ⟨qm_nb _ (by rw [hr]; exact qm_v1 _ _ _ _ _ _ _), H r b9 b10 hr g9 g10⟩))
  · exact br_t (by decide) (qm_r9 (pv := pv) h9 h10 h0 (fun r b9 b10 hr g9 g10 => ⟨qm_nb _ (by rw [hr]; exact qm_v1 _ _ _ _ _ _ _), H r b9 b10 hr g9 g10⟩))
  · exact br_t (by decide) (qm_r11 (pv := pv) h9 h10 h0 (fun r b9 b10 hr g9 g10 => ⟨qm_nb _ (by rw [hr]; exact qm_v1 _ _ _ _ _ _ _), H r b9 b10 hr g9 g10⟩))
  · exact br_t (by decide) (qm_r12 (pv := pv) h9 h10 h0 (fun r b9 b10 hr g9 g10 => ⟨qm_nb _ (by rw [hr]; exact qm_v1 _ _ _ _ _ _ _), H r b9 b10 hr g9 g10⟩))
theorem qm_sp {post : Int32 → St2 → Prop} {op x t pv me ls : Int32} (ho : qm_op op) (h0 : a1 0 = op) (h1 : a1 1 = 0) (hx : x = 0 ∨ x = 1) (h7 : a7 1 = pv) (h9 : a9 0 = me) (h10 : a10 0 = ls) (H : ∀ r b7 b8 b9 b10, r = qm_v op w x t pv me ls → b7 1 = x → b9 0 = qm_m op x me → b10 0 = qm_l op x t ls → post r (w, 2, oc, ct, jd, a1, a2, a3, a4, a5, a6, b7, b8, b9, b10, a11, a12, a13)) : wpX_step post (w, 2, oc, ct, jd, a1, a2, a3, a4, a5, a6, a7, a8, a9, a10, a11, a12, a13) x t := by
  refine ⟨0 + 1 + 1 + 1, br_f (by decide) ⟨pk_in 0 14 (by omega), pk_in 0 14 (by omega), nm_e (nm_r (e' := 1) (by decide) (br_f (by decide) ⟨pk_in 1 14 (by omega), pk_in 1 14 (by omega), nm_e (nm_r (e' := 2) (by decide) (br_t (by decide) (nm_r (e' := 1) (by decide) ⟨0 + 1 + 1 + 1, ?_⟩)))⟩))⟩⟩
  refine br_f (by decide) (qm_p1 h1 hx ⟨pk_in 1 14 (by omega), nm_e (nm_r (e' := 0) (by decide) ?_)⟩)
  refine br_f (by decide) (qm_p0 (x := x) (pv := pv) ho h0 (by rw [qm_c1, pk_us]; exact qm_01 hx) (by rw [qm_c1, pk_us, h7]; rfl) h9 h10 ?_)
  intro r b9 b10 hr g9 g10
  refine ⟨pk_in 0 14 (by omega), nm_e (nm_r (e' := -1) (by decide) ?_)⟩
  have er : r &&& 1 = r := by rw [hr]; exact qm_v1 _ _ _ _ _ _ _
  exact br_t (by decide) ⟨qm_nb _ (by rw [qm_c0, pk_us]; exact qm_and1 _), H _ _ _ _ _ (by rw [qm_c0, pk_us]; exact er.trans hr) (by rw [qm_c0, pk_un (by decide), qm_c1, pk_us]; exact qm_01 hx) g9 g10⟩
theorem qm_it {post : Int32 → St2 → Prop} {n k : Nat} {op x pv me ls j' : Int32} {wd : Int64} (ho : qm_op op) (h0 : a1 0 = op) (h1 : a1 1 = 0) (hx : x = 0 ∨ x = 1) (h7 : a7 1 = pv) (h9 : a9 0 = me) (h10 : a10 0 = ls) (h6 : a6 0 = wd) (hk : jd = nI k) (hk3 : k < 3) (h5 : a5 k = x) (hs : jd >>> ((6 : Int32) &&& 31) = 0) (hj : jd + 1 = j')
    (H : ∀ b6 b7 b8 b9 b10, b6 0 = qm_wd wd (qm_v op w x jd pv me ls) jd → b7 1 = x → b9 0 = qm_m op x me → b10 0 = qm_l op x jd ls → wX_judge_20 post n w 2 oc 3 j' a1 a2 a3 a4 a5 b6 b7 b8 b9 b10 a11 a12 a13) : wX_judge_20 post (n + 1) w 2 oc 3 jd a1 a2 a3 a4 a5 a6 a7 a8 a9 a10 a11 a12 a13 := by
  have ek : jd.toNatClampNeg = k := pk_cl k hk
  have n3 : ¬ (3 : Int32) ≤ jd := by rw [hk]; exact nI_ge (b := 3) hk3 (by decide)
  refine br_f n3 ⟨pk_in k 200 (by omega) hk, ?_⟩
  rw [ek, h5]
  refine qm_sp ho h0 h1 hx h7 h9 h10 (fun r b7 b8 b9 b10 hr g7 g9 g10 => nm_e (nm_r hs ?_))
  refine br_c (fun e => ⟨pk_in 0 4 (by omega), pk_in 0 4 (by omega), nm_r (by rw [qm_c0, h6]) (nm_r hj (H _ _ _ _ _ ?_ g7 g9 g10))⟩) (fun e => ⟨pk_in 0 4 (by omega), pk_in 0 4 (by omega), nm_r (by rw [qm_c0, h6]) (nm_r hj (H _ _ _ _ _ ?_ g7 g9 g10))⟩)
  · rw [pk_uLs, ← hr]
    unfold qm_wd
    rw [if_pos e]
  · rw [pk_uLs, ← hr]
    unfold qm_wd
    rw [if_neg e]
theorem qm_j0 {post : Int32 → St2 → Prop} {op a b c : Int32} (ho : qm_op op) (h0 : a1 0 = op) (h1 : a1 1 = 0) (ha : a = 0 ∨ a = 1) (hb : b = 0 ∨ b = 1) (hc : c = 0 ∨ c = 1) (f0 : a5 0 = a) (f1 : a5 1 = b) (f2 : a5 2 = c) (h6 : a6 0 = 0)
    (H : ∀ b3 b4 b6 b7 b8 b9 b10, b6 0 = qm_W op w a b c → post 1 (w, 2, 0, 3, 3, a1, a2, b3, b4, a5, b6, b7, b8, b9, b10, a11, a12, a13)) : wpX_judge post (w, 2, oc, 3, 0, a1, a2, a3, a4, a5, a6, a7, a8, a9, a10, a11, a12, a13) := by
  unfold wpX_judge
  dsimp only
  refine qm_cp2 (oc := oc) ho h0 h1 (fun b3 b4 => ?_)
  dsimp only
  refine br_f (by decide) (br_t rfl (qm_bg (fun b7 b9 b10 K => ?_)))
  dsimp only
  refine ⟨0 + 1 + 1 + 1 + 1, ?_⟩
  have K0 := K 0 (by omega)
  have K1 := K 1 (by omega)
  rw [h0] at K0
  refine qm_it ho h0 h1 ha K1.1 K0.2.1 K0.2.2 h6 (k := 0) rfl (by omega) f0 (by decide) (j' := 1) (by decide) (fun b6' b7' b8' b9' b10' g6 g7 g9 g10 => ?_)
  refine qm_it ho h0 h1 hb g7 g9 g10 g6 (k := 1) rfl (by omega) f1 (by decide) (j' := 2) (by decide) (fun b6'' b7'' b8'' b9'' b10'' k6 k7 k9 k10 => ?_)
  refine qm_it ho h0 h1 hc k7 k9 k10 k6 (k := 2) rfl (by omega) f2 (by decide) (j' := 3) (by decide) (fun b6x b7x b8x b9x b10x l6 l7 l9 l10 => ?_)
  exact br_t (by decide) (H _ _ _ _ _ _ _ l6)
theorem qm_j3 {post : Int32 → St2 → Prop} {op : Int32} (ho : qm_op op) (h0 : a1 0 = op) (h1 : a1 1 = 0) (H : ∀ b3 b4, post 1 (w, 2, 0, 3, 3, a1, a2, b3, b4, a5, a6, a7, a8, a9, a10, a11, a12, a13)) : wpX_judge post (w, 2, oc, 3, 3, a1, a2, a3, a4, a5, a6, a7, a8, a9, a10, a11, a12, a13) := by
  unfold wpX_judge
  dsimp only
  refine qm_cp2 (oc := oc) ho h0 h1 (fun b3 b4 => ?_)
  dsimp only
  exact br_f (by decide) (br_f (by decide) ⟨0 + 1, br_t (by decide) (H _ _)⟩)
theorem qm_wt {P : Int32 → Prop} {sz p : Int32} {wd : Int64} (hs : p >>> ((6 : Int32) &&& 31) = 0) (h6 : a6 0 = wd) (H0 : qm_tr wd p = 0 → P 0) (H1 : qm_tr wd p = 1 → P 1) : wpX_wasTrue P (w, sz, oc, ct, jd, a1, a2, a3, a4, a5, a6, a7, a8, a9, a10, a11, a12, a13) p := by
  unfold wpX_wasTrue
  dsimp only
  rw [hs, qm_c0, h6]
  exact ⟨pk_in 0 4 (by omega), br_c (fun e => H0 (by unfold qm_tr; rw [if_pos e])) (fun e => H1 (by unfold qm_tr; rw [if_neg e]))⟩
theorem qm_at0 {post : Int32 → St2 → Prop} {p op a b c : Int32} (hp0 : ¬ p < 0) (hp3 : ¬ 3 ≤ p) (hs : p >>> ((6 : Int32) &&& 31) = 0) (ho : qm_op op) (h0 : a1 0 = op) (h1 : a1 1 = 0) (ha : a = 0 ∨ a = 1) (hb : b = 0 ∨ b = 1) (hc : c = 0 ∨ c = 1) (f0 : a5 0 = a) (f1 : a5 1 = b) (f2 : a5 2 = c) (h6 : a6 0 = 0)
    (H : ∀ b3 b4 b6 b7 b8 b9 b10, b6 0 = qm_W op w a b c → post (qm_tr (qm_W op w a b c) p) (w, 2, 0, 3, 3, a1, a2, b3, b4, a5, b6, b7, b8, b9, b10, a11, a12, a13)) : wpX_at post (w, 2, oc, 3, 0, a1, a2, a3, a4, a5, a6, a7, a8, a9, a10, a11, a12, a13) p :=
  br_f hp0 (br_f hp3 (qm_j0 ho h0 h1 ha hb hc f0 f1 f2 h6 (fun b3 b4 b6 b7 b8 b9 b10 g6 => br_f (by decide) (qm_wt hs g6 (fun e => br_t rfl (e ▸ H b3 b4 b6 b7 b8 b9 b10 g6)) (fun e => br_f (by decide) (e ▸ H b3 b4 b6 b7 b8 b9 b10 g6))))))
theorem qm_at3 {post : Int32 → St2 → Prop} {p op : Int32} {wd : Int64} (hp0 : ¬ p < 0) (hp3 : ¬ 3 ≤ p) (hs : p >>> ((6 : Int32) &&& 31) = 0) (ho : qm_op op) (h0 : a1 0 = op) (h1 : a1 1 = 0) (h6 : a6 0 = wd)
    (H : ∀ b3 b4, post (qm_tr wd p) (w, 2, 0, 3, 3, a1, a2, b3, b4, a5, a6, a7, a8, a9, a10, a11, a12, a13)) : wpX_at post (w, 2, oc, 3, 3, a1, a2, a3, a4, a5, a6, a7, a8, a9, a10, a11, a12, a13) p :=
  br_f hp0 (br_f hp3 (qm_j3 ho h0 h1 (fun b3 b4 => br_f (by decide) (qm_wt hs h6 (fun e => br_t rfl (e ▸ H b3 b4)) (fun e => br_f (by decide) (e ▸ H b3 b4))))))
theorem qm_now {post : Int32 → St2 → Prop} {op a b c : Int32} (ho : qm_op op) (h0 : a1 0 = op) (h1 : a1 1 = 0) (ha : a = 0 ∨ a = 1) (hb : b = 0 ∨ b = 1) (hc : c = 0 ∨ c = 1) (f0 : a5 0 = a) (f1 : a5 1 = b) (f2 : a5 2 = c) (h6 : a6 0 = 0)
    (H : ∀ b3 b4 b6 b7 b8 b9 b10, b6 0 = qm_W op w a b c → post (qm_tr (qm_W op w a b c) (3 - 1)) (w, 2, 0, 3, 3, a1, a2, b3, b4, a5, b6, b7, b8, b9, b10, a11, a12, a13)) : wpX_now post (w, 2, oc, 3, 0, a1, a2, a3, a4, a5, a6, a7, a8, a9, a10, a11, a12, a13) := by
  unfold wpX_now
  dsimp only
  exact qm_at0 (by decide) (by decide) (by decide) ho h0 h1 ha hb hc f0 f1 f2 h6 (fun b3 b4 b6 b7 b8 b9 b10 g6 => ⟨qm_nb _ (qm_trb _ _), H b3 b4 b6 b7 b8 b9 b10 g6⟩)
theorem qm_ci {post : Int32 → St2 → Prop} {n : Nat} {sz x1 x2 : Int32} {wd : Int64} (h3 : ¬ 3 ≤ x2) (hs : x2 >>> ((6 : Int32) &&& 31) = 0) (h6 : a6 0 = wd) (H : wX_count_13 post w sz oc 3 jd a1 a2 a3 a4 a5 a6 a7 a8 a9 a10 a11 a12 a13 n (x1 + qm_tr wd x2) (x2 + 1)) : wX_count_13 post w sz oc 3 jd a1 a2 a3 a4 a5 a6 a7 a8 a9 a10 a11 a12 a13 (n + 1) x1 x2 :=
  br_f h3 (qm_wt hs h6 (fun e => br_t rfl (nm_r (e' := x1 + qm_tr wd x2) (by rw [e]) (nm_e H))) (fun e => br_f (by decide) (nm_r (e' := x1 + qm_tr wd x2) (by rw [e]) (nm_e H))))
theorem qm_count {post : Int32 → St2 → Prop} {op : Int32} {wd : Int64} (ho : qm_op op) (h0 : a1 0 = op) (h1 : a1 1 = 0) (h6 : a6 0 = wd) (H : ∀ b3 b4, post (qm_cn wd) (w, 2, 0, 3, 3, a1, a2, b3, b4, a5, a6, a7, a8, a9, a10, a11, a12, a13)) : wpX_count post (w, 2, oc, 3, 3, a1, a2, a3, a4, a5, a6, a7, a8, a9, a10, a11, a12, a13) := by
  unfold wpX_count
  dsimp only
  exact qm_j3 ho h0 h1 (fun b3 b4 => br_f (by decide) ⟨0 + 1 + 1 + 1 + 1, qm_ci (by decide) (by decide) h6 (qm_ci (by decide) (by decide) h6 (qm_ci (by decide) (by decide) h6 (br_t (by decide) (H _ _))))⟩)
end
section
variable {w oc ct jd : Int32} {a1 a2 a3 a4 a5 : Nat → Int32} {a6 : Nat → Int64} {a7 a8 a9 a10 a11 a12 a13 : Nat → Int32}
theorem qm_132 {op a b c : Int32} (ho : qm_op op) (h0 : a1 0 = op) (h1 : a1 1 = 0) (ha : a = 0 ∨ a = 1) (hb : b = 0 ∨ b = 1) (hc : c = 0 ∨ c = 1) (f0 : a5 0 = a) (f1 : a5 1 = b) (f2 : a5 2 = c) (h6 : a6 0 = 0)
    (F : qm_fin w op a b c (qm_tr (qm_W op w a b c) (3 - 1)) (qm_tr (qm_W op w a b c) 1) (qm_cn (qm_W op w a b c))) : wL_lawOf_132 (fun r _ => r = 1) 92 1472 w op a b c (1 + 13) (18 + 362) w 2 oc 3 0 a1 a2 a3 a4 a5 a6 a7 a8 a9 a10 a11 a12 a13 :=
  qm_now ho h0 h1 ha hb hc f0 f1 f2 h6 (fun b3 b4 b6 b7 b8 b9 b10 g6 => qm_at3 (by decide) (by decide) (by decide) ho h0 h1 g6 (fun b3' b4' => qm_count ho h0 h1 g6 (fun b3'' b4'' => F)))
theorem qm_44 {x1 op a b c : Int32} (ho : qm_op op) (ha : a = 0 ∨ a = 1) (hb : b = 0 ∨ b = 1) (hc : c = 0 ∨ c = 1) (ea : x1 &&& 1 = a) (eb : (x1 >>> ((1 : Int32) &&& 31)) &&& 1 = b) (ec : (x1 >>> ((2 : Int32) &&& 31)) &&& 1 = c) (gb : x1 &&& 2 = 2 ↔ b = 1) (gc : x1 &&& 4 = 4 ↔ c = 1)
    (F : qm_fin w op a b c (qm_tr (qm_W op w a b c) (3 - 1)) (qm_tr (qm_W op w a b c) 1) (qm_cn (qm_W op w a b c))) : wL_lawOf_44 (fun r _ => r = 1) 92 1472 x1 w op (1 + 13) (18 + 362) w 0 0 0 0 (fun _ => 0) (fun _ => 0) (fun _ => 0) (fun _ => 0) (fun _ => 0) (fun _ => 0) (fun _ => 0) (fun _ => 0) (fun _ => 0) (fun _ => 0) (fun _ => 0) (fun _ => 0) (fun _ => 0) := by
  refine qm_fd0 ho (fun _ b1 k0 => qm_fd1 ho k0 (fun _ d1 b3 b4 h0 h1 => ?_))
  refine qm_ev (c' := 1) 0 rfl (by omega) (by decide) (by rw [ea]; exact ha) (fun _ e0 u0 v0 => ?_)
  refine qm_ev (c' := 2) 1 rfl (by omega) (by decide) (by rw [eb]; exact hb) (fun _ e1 u1 v1 => ?_)
  refine qm_ev (c' := 3) 2 rfl (by omega) (by decide) (by rw [ec]; exact hc) (fun _ e2 u2 v2 => ?_)
  have f0 : e2 0 = a := by rw [v2 0 (by decide), v1 0 (by decide), u0, ea]
  have f1 : e2 1 = b := by rw [v2 1 (by decide), u1, eb]
  have f2 : e2 2 = c := by rw [u2, ec]
  dsimp only
  have G : ∀ {x y z : Int32}, x = a → y = b → z = c → wL_lawOf_132 (fun r _ => r = 1) 92 1472 w op x y z (1 + 13) (18 + 362) w 2 1 3 0 d1 (fun _ => 0) b3 b4 e2 (fun _ => 0) (fun _ => 0) (fun _ => 0) (fun _ => 0) (fun _ => 0) (fun _ => 0) (fun _ => 0) (fun _ => 0) := by
    intro x y z hx hy hz
    subst hx hy hz
    exact qm_132 ho h0 h1 ha hb hc f0 f1 f2 rfl F
  have A : ∀ {y : Int32}, y = a → wL_lawOf_104 (fun r _ => r = 1) 92 1472 x1 w op y (1 + 13) (18 + 362) w 2 1 3 0 d1 (fun _ => 0) b3 b4 e2 (fun _ => 0) (fun _ => 0) (fun _ => 0) (fun _ => 0) (fun _ => 0) (fun _ => 0) (fun _ => 0) (fun _ => 0) := by
    intro y hy
    refine br_c (fun e => ?_) (fun e => ?_)
    · have eb1 : 1 = b := (gb.mp e).symm
      exact br_c (fun g => G hy eb1 (gc.mp g).symm) (fun g => G hy eb1 (hc.resolve_right (fun t => g (gc.mpr t))).symm)
    · have eb0 : 0 = b := (hb.resolve_right (fun t => e (gb.mpr t))).symm
      exact br_c (fun g => G hy eb0 (gc.mp g).symm) (fun g => G hy eb0 (hc.resolve_right (fun t => g (gc.mpr t))).symm)
  exact br_c (fun e => A (e.symm.trans ea)) (fun e => A (ha.resolve_right (fun t => e (ea.trans t))).symm)
theorem qm_bits (x : Int32) : ∃ j, j < 8 ∧ x &&& 1 = nI (j % 2) ∧ (x >>> ((1 : Int32) &&& 31)) &&& 1 = nI (j / 2 % 2) ∧ (x >>> ((2 : Int32) &&& 31)) &&& 1 = nI (j / 4) ∧ (x &&& 2 = 2 ↔ nI (j / 2 % 2) = 1) ∧ (x &&& 4 = 4 ↔ nI (j / 4) = 1) := by
  obtain ⟨j, hj, e⟩ := pk_andE x (m := 7) 3 (by decide)
  have e1 : x &&& 1 = (x &&& 7) &&& 1 := by rw [Int32.and_assoc]; exact congrArg (x &&& ·) (by decide)
  have e2 : x &&& 2 = (x &&& 7) &&& 2 := by rw [Int32.and_assoc]; exact congrArg (x &&& ·) (by decide)
  have e4 : x &&& 4 = (x &&& 7) &&& 4 := by rw [Int32.and_assoc]; exact congrArg (x &&& ·) (by decide)
  have s1 : (x >>> ((1 : Int32) &&& 31)) &&& 1 = ((x &&& 7) >>> ((1 : Int32) &&& 31)) &&& 1 := by
    rw [Int32.shiftRight_and, Int32.and_assoc]; exact congrArg ((x >>> ((1 : Int32) &&& 31)) &&& ·) (by decide)
  have s2 : (x >>> ((2 : Int32) &&& 31)) &&& 1 = ((x &&& 7) >>> ((2 : Int32) &&& 31)) &&& 1 := by
    rw [Int32.shiftRight_and, Int32.and_assoc]; exact congrArg ((x >>> ((2 : Int32) &&& 31)) &&& ·) (by decide)
  have all : ∀ j, j < 8 → nI j &&& 1 = nI (j % 2) ∧ (nI j >>> ((1 : Int32) &&& 31)) &&& 1 = nI (j / 2 % 2) ∧ (nI j >>> ((2 : Int32) &&& 31)) &&& 1 = nI (j / 4) ∧ (nI j &&& 2 = 2 ↔ nI (j / 2 % 2) = 1) ∧ (nI j &&& 4 = 4 ↔ nI (j / 4) = 1) := by decide +kernel
  rw [e1, e2, e4, s1, s2, e]
  exact ⟨j, hj, all j hj⟩
theorem qm_b01 {n : Nat} (h : n < 2) : nI n = 0 ∨ nI n = 1 := by
  rcases (show n = 0 ∨ n = 1 by omega) with rfl | rfl
  · exact Or.inl rfl
  · exact Or.inr rfl
theorem qm_rem (x : Int32) {D : Int32} (d : Nat) (hD : D = nI d) (h0 : 0 < d) (hd : d < 2 ^ 31) : ∃ m, m < d ∧ (x &&& 65535) - (x &&& 65535) / D * D = nI m := by
  obtain ⟨j, hj, e⟩ := pk_andE x (m := 65535) 16 (by decide)
  rw [e, hD, pk_rem (by omega) h0 hd]
  exact ⟨j % d, Nat.mod_lt _ h0, rfl⟩
theorem qm_of (p0 p1 p2 : Int32) : wpL_lawOf (fun r _ => r = 1) 92 1472 () p0 p1 p2 := by
  obtain ⟨m, hm, em⟩ := qm_rem p2 (D := 3) 3 rfl (by omega) (by omega)
  obtain ⟨k, hk, ek⟩ := qm_rem p0 (D := 5) 5 rfl (by omega) (by omega)
  obtain ⟨j, hj, ea, eb, ec, gb, gc⟩ := qm_bits p1
  have g1 : (0 : Int32) ≤ nI m := nI_pos' (by omega)
  have g2 : nI m ≤ 12 := nI_le (b := 12) (by omega) (by decide)
  refine ⟨by decide, nm_r em ⟨by decide, by decide, 13, 362, by decide, by decide, ?_⟩⟩
  refine ⟨by decide, by decide, by decide, by decide, by decide, by decide, by decide, by decide, by decide, by decide, by decide, by decide, by decide, by decide, by decide, by decide, by decide, by decide, by decide, by decide, by decide, by decide, by decide, by decide, by decide, by decide, br_t g1 (br_t g2 ⟨by decide, nm_r ek ?_⟩)⟩
  have L : ∀ op, qm_op op → wL_lawOf_44 (fun r _ => r = 1) 92 1472 p1 (nI m) op (1 + 13) (18 + 362) (nI m) 0 0 0 0 (fun _ => 0) (fun _ => 0) (fun _ => 0) (fun _ => 0) (fun _ => 0) (fun _ => 0) (fun _ => 0) (fun _ => 0) (fun _ => 0) (fun _ => 0) (fun _ => 0) (fun _ => 0) (fun _ => 0) := fun op ho =>
    qm_44 ho (qm_b01 (by omega)) (qm_b01 (by omega)) (qm_b01 (by omega)) ea eb ec gb gc (qm_fine hm hj ho)
  refine br_c (fun e => L _ ?_) (fun e => L _ ?_)
  · rcases (show k = 0 ∨ k = 1 ∨ k = 2 ∨ k = 3 ∨ k = 4 by omega) with rfl | rfl | rfl | rfl | rfl
    · exact absurd e (by decide)
    · exact absurd e (by decide)
    · exact absurd e (by decide)
    · exact Or.inr (Or.inr (Or.inr (Or.inl (by decide))))
    · exact Or.inr (Or.inr (Or.inr (Or.inr (by decide))))
  · rcases (show k = 0 ∨ k = 1 ∨ k = 2 ∨ k = 3 ∨ k = 4 by omega) with rfl | rfl | rfl | rfl | rfl
    · exact Or.inl (by decide)
    · exact Or.inr (Or.inl (by decide))
    · exact Or.inr (Or.inr (Or.inl (by decide)))
    · exact absurd (show (3 : Int32) ≤ nI 3 by decide) e
    · exact absurd (show (3 : Int32) ≤ nI 4 by decide) e
theorem qm_cell {P : Int32 → Prop} {L : Nat} {xs : Nat → Int32} {x : Int32} (k : Nat) (hk : k < 3) (hL : L ≤ 3) (hx : x = nI k) (H : ∀ r, P r) : wpL_cellAt P L xs () x :=
  pk_le L k (fun _ => H _) (fun z => ⟨pk_in k L z hx, H _⟩) rfl hx
theorem i_vc (xs : Nat → Int32) (L : Nat) (hL : L ≤ 3) : wpL_law (fun r => r = 1) L xs :=
  qm_cell 0 (by omega) hL rfl (fun r1 => qm_cell 1 (by omega) hL rfl (fun r2 => qm_cell 2 (by omega) hL rfl (fun r3 => ⟨92, 1472, by decide, by decide, qm_of r1 r2 r3⟩)))
end
