section
/-- a truth value as the bytecode's int -/
def tf_b (b : Bool) : Int32 := cond b 1 0
/-- the law's 'in' -/
def tf_in (v t : Int32) : Bool := !decide (v < 0) && !decide (t < v)
theorem tf_br {b : Bool} {A B : Prop} (f : b = false → A) (g : b = true → B) : (tf_b b = 0 → A) ∧ (¬ tf_b b = 0 → B) := by
  cases b
  · exact br_t rfl (f rfl)
  · exact br_f (by decide) (g rfl)
theorem tf_inF1 {v t : Int32} (h : v < 0) : tf_in v t = false := by
  unfold tf_in
  rw [decide_eq_true h]
  rfl
theorem tf_inF2 {v t : Int32} (h : t < v) : tf_in v t = false := by
  unfold tf_in
  rw [decide_eq_true h, Bool.not_true, Bool.and_false]
theorem tf_inT {v t : Int32} (h : ¬ v < 0) (h2 : ¬ t < v) : tf_in v t = true := by
  unfold tf_in
  rw [decide_eq_false h, decide_eq_false h2]
  rfl
theorem tf_inE {v t : Int32} (h : tf_in v t = true) : ¬ v < 0 ∧ ¬ t < v := by
  constructor
  · intro z
    rw [tf_inF1 z] at h
    exact Bool.noConfusion h
  · intro z
    rw [tf_inF2 z] at h
    exact Bool.noConfusion h
theorem tf_core {post : Int32 → Prop} {v t : Int32} (h : post (tf_b (tf_in v t))) : (v < 0 → post 0) ∧ (¬ v < 0 → ((t < v → post 0) ∧ (¬ t < v → post 1))) := by
  refine br_c (fun z => ?_) (fun z => br_c (fun y => ?_) (fun y => ?_))
  · rw [tf_inF1 z] at h
    exact h
  · rw [tf_inF2 y] at h
    exact h
  · rw [tf_inT z y] at h
    exact h
/-- a value that is 'in' is a small natural -/
theorem tf_nat {v t : Int32} {n : Nat} (ht : t.toInt = n) (h : tf_in v t = true) : ∃ j : Nat, j ≤ n ∧ v = nI j :=
  nI_of2 ht (tf_inE h).1 (Int32.not_lt.mp (tf_inE h).2)
theorem tf_vin {v t : Int32} {n : Nat} (ht : t.toInt = n) (hn : n < 1000) (h : tf_in v t = true) : vp_in v (n + 1) := by
  obtain ⟨j, hj, rfl⟩ := tf_nat ht h
  exact vp_in_nI (by omega) (by omega)
def tf_num (op : Int32) : Bool := !decide (op < 4) && !decide (6 < op)
def tf_tgt (op : Int32) : Bool := !decide (op < 7) && !decide (9 < op)
/-- the law's 'fits', as the law counts it -/
def tf_f0 (op x : Int32) : Bool := tf_in op 10 && (decide (op = 10) || tf_in x (cond (decide (op = 9)) 23 7))
def tf_f1 (op x y : Int32) : Bool := tf_f0 op x && (decide (6 < op) || tf_in y 7)
def tf_f2 (op x y z : Int32) : Bool := tf_f1 op x y && (decide (3 < op) || tf_in z 7)
def tf_f3 (op x y z : Int32) : Bool := tf_f2 op x y z && (!(decide (op = 7) || decide (op = 8)) || tf_in y 23)
/-- the same, as emit counts it -/
def tf_c94 (op x : Int32) : Bool := !decide (op = 9) || tf_in x 23
def tf_c72 (op x y : Int32) : Bool := (!(decide (op = 7) || decide (op = 8)) || tf_in y 23) && tf_c94 op x
def tf_c56 (op x y z : Int32) : Bool := (decide (3 < op) || tf_in z 7) && tf_c72 op x y
def tf_c40 (op x y z : Int32) : Bool := (decide (6 < op) || tf_in y 7) && tf_c56 op x y z
def tf_cE (op x y z : Int32) : Bool := tf_in op 10 && ((decide (8 < op) || tf_in x 7) && tf_c40 op x y z)
/-- what holds of the eleven op codes holds of each op that is 'in' -/
theorem tf_eleven {P : Int32 → Prop} (h0 : P (nI 0)) (h1 : P (nI 1)) (h2 : P (nI 2)) (h3 : P (nI 3)) (h4 : P (nI 4)) (h5 : P (nI 5)) (h6 : P (nI 6)) (h7 : P (nI 7)) (h8 : P (nI 8)) (h9 : P (nI 9)) (h10 : P (nI 10)) {op : Int32} (h : tf_in op 10 = true) : P op := by
  obtain ⟨j, hj, rfl⟩ := tf_nat (n := 10) rfl h
  have e : j = 0 ∨ j = 1 ∨ j = 2 ∨ j = 3 ∨ j = 4 ∨ j = 5 ∨ j = 6 ∨ j = 7 ∨ j = 8 ∨ j = 9 ∨ j = 10 := by omega
  rcases e with rfl | rfl | rfl | rfl | rfl | rfl | rfl | rfl | rfl | rfl | rfl <;> assumption
theorem tf_byte {op : Int32} (h : tf_in op 10 = true) : op.toInt8.toInt32 = op :=
  tf_eleven (P := fun op => op.toInt8.toInt32 = op) (by decide) (by decide) (by decide) (by decide) (by decide) (by decide) (by decide) (by decide) (by decide) (by decide) (by decide) h
/-- amend's road through the op codes -/
theorem tf_road {op : Int32} (h : tf_in op 10 = true) : (op < 4 → tf_num op = false ∧ tf_tgt op = false) ∧ (op = 10 → tf_num op = false ∧ tf_tgt op = false) ∧ (¬ op < 4 → op < 7 → tf_num op = true) ∧ (¬ op = 10 → ¬ op < 7 → tf_num op = false ∧ tf_tgt op = true) :=
  tf_eleven (P := fun op => (op < 4 → tf_num op = false ∧ tf_tgt op = false) ∧ (op = 10 → tf_num op = false ∧ tf_tgt op = false) ∧ (¬ op < 4 → op < 7 → tf_num op = true) ∧ (¬ op = 10 → ¬ op < 7 → tf_num op = false ∧ tf_tgt op = true)) (by decide) (by decide) (by decide) (by decide) (by decide) (by decide) (by decide) (by decide) (by decide) (by decide) (by decide) h
/-- both counts over bools: a, b: x in 7, in 23; c, d: y; e: z -/
def tf_same (op : Int32) (a b c d e : Bool) : Prop :=
  ((((decide (op = 10) || cond (decide (op = 9)) b a) && (decide (6 < op) || c)) && (decide (3 < op) || e)) && (!(decide (op = 7) || decide (op = 8)) || d)) = ((decide (8 < op) || a) && ((decide (6 < op) || c) && ((decide (3 < op) || e) && ((!(decide (op = 7) || decide (op = 8)) || d) && (!decide (op = 9) || b)))))
theorem tf_same_all {op : Int32} (h : tf_in op 10 = true) : ∀ a b c d e : Bool, tf_same op a b c d e :=
  tf_eleven (P := fun op => ∀ a b c d e : Bool, tf_same op a b c d e) (by unfold tf_same; decide) (by unfold tf_same; decide) (by unfold tf_same; decide) (by unfold tf_same; decide) (by unfold tf_same; decide) (by unfold tf_same; decide) (by unfold tf_same; decide) (by unfold tf_same; decide) (by unfold tf_same; decide) (by unfold tf_same; decide) (by unfold tf_same; decide) h
theorem tf_fits (op x y z : Int32) : tf_f3 op x y z = tf_cE op x y z := by
  unfold tf_f3 tf_f2 tf_f1 tf_f0 tf_cE tf_c40 tf_c56 tf_c72 tf_c94
  cases h : tf_in op 10
  · simp only [Bool.false_and]
  · have k := tf_same_all h (tf_in x 7) (tf_in x 23) (tf_in y 7) (tf_in y 23) (tf_in z 7)
    unfold tf_same at k
    have g : tf_in x (cond (decide (op = 9)) 23 7) = cond (decide (op = 9)) (tf_in x 23) (tf_in x 7) := by
      cases decide (op = 9) <;> rfl
    rw [g, Bool.true_and, Bool.true_and]
    exact k
theorem tf_fits_op {op x y z : Int32} (h : tf_cE op x y z = true) : tf_in op 10 = true := by
  unfold tf_cE at h
  cases e : tf_in op 10
  · rw [e] at h
    exact h
  · rfl
end
section
theorem tf_wtar {post : Int32 → Prop} {l pc st fi hd en fp re : Int32} {a1 a2 a3 a4 a5 a6 a7 a8 a9 a10 a11 a12 a13 a14 a15 a16 a17 a18 a19 a20 a21 a22 : Nat → Int32} {v : Int32} (h : post (tf_b (tf_in v 23))) : wpX_isTarget post (l, pc, st, fi, hd, en, fp, re, a1, a2, a3, a4, a5, a6, a7, a8, a9, a10, a11, a12, a13, a14, a15, a16, a17, a18, a19, a20, a21, a22) v := by
  unfold wpX_isTarget
  exact tf_core h
theorem tf_wreg {post : Int32 → Prop} {l pc st fi hd en fp re : Int32} {a1 a2 a3 a4 a5 a6 a7 a8 a9 a10 a11 a12 a13 a14 a15 a16 a17 a18 a19 a20 a21 a22 : Nat → Int32} {v : Int32} (h : post (tf_b (tf_in v 7))) : wpX_isRegister post (l, pc, st, fi, hd, en, fp, re, a1, a2, a3, a4, a5, a6, a7, a8, a9, a10, a11, a12, a13, a14, a15, a16, a17, a18, a19, a20, a21, a22) v := by
  unfold wpX_isRegister
  exact tf_core h
theorem tf_fg {post : St2 → Prop} {l pc st fi hd en fp re : Int32} {a1 a2 a3 a4 a5 a6 a7 a8 a9 a10 a11 a12 a13 a14 a15 a16 a17 a18 a19 a20 a21 a22 : Nat → Int32} (H : ∀ s, post (l, pc, st, 0, hd, en, fp, re, a1, a2, a3, a4, a5, a6, a7, s, a9, a10, a11, a12, a13, a14, a15, a16, a17, a18, a19, a20, a21, a22)) : wpX_forgetTraces post (l, pc, st, fi, hd, en, fp, re, a1, a2, a3, a4, a5, a6, a7, a8, a9, a10, a11, a12, a13, a14, a15, a16, a17, a18, a19, a20, a21, a22) :=
  pk_loop (fun n i s => wX_forgetTraces_2 post l pc st fi hd en fp re n (nI i) a1 a2 a3 a4 a5 a6 a7 s a9 a10 a11 a12 a13 a14 a15 a16 a17 a18 a19 a20 a21 a22) (fun _ _ => True) 8 0 a8 (by omega) trivial
    (fun n s _ => pk_le 8 8 (fun _ => H s) (fun z => absurd z (by omega)))
    (fun n i s hi _ hw => pk_le 8 i (fun z => absurd z (by omega)) (fun _ => ⟨pk_in i 8 hi, nm_e (nm_r (nI_1 i) (hw _ trivial))⟩))
theorem tf_sq {post : St2 → Prop} {l pc st fi hd en fp re : Int32} {a1 a2 a3 a4 a5 a6 a7 a8 a9 a10 a11 a12 a13 a14 a15 a16 a17 a18 a19 a20 a21 a22 : Nat → Int32} (H : ∀ s, post (l, pc, st, fi, hd, 0, pc, re, a1, a2, a3, a4, a5, a6, a7, a8, a9, a10, a11, a12, a13, a14, a15, a16, a17, a18, a19, a20, a21, s)) : wpX_squash post (l, pc, st, fi, hd, en, fp, re, a1, a2, a3, a4, a5, a6, a7, a8, a9, a10, a11, a12, a13, a14, a15, a16, a17, a18, a19, a20, a21, a22) :=
  pk_loop (fun n i s => wX_squash_15 post l pc st fi hd 0 pc re n (nI i) a1 a2 a3 a4 a5 a6 a7 a8 a9 a10 a11 a12 a13 a14 a15 a16 a17 a18 a19 a20 a21 s) (fun _ _ => True) 8 0 a22 (by omega) trivial
    (fun n s _ => pk_le 8 8 (fun _ => H s) (fun z => absurd z (by omega)))
    (fun n i s hi _ hw => pk_le 8 i (fun z => absurd z (by omega)) (fun _ => ⟨pk_in i 8 hi, nm_e (nm_r (nI_1 i) (hw _ trivial))⟩))
/-- a new object: its length is what it was, of the rest nothing is said -/
theorem tf_init {post : St2 → Prop} {mc ms : Nat} {l pc st fi hd en fp re : Int32} (hc : 22 ≤ mc) (hs : 275 ≤ ms) (H : ∀ (pc st fi hd en fp re : Int32) (a1 a2 a3 a4 a5 a6 a7 a8 a9 a10 a11 a12 a13 a14 a15 a16 a17 a18 a19 a20 a21 a22 : Nat → Int32), post (l, pc, st, fi, hd, en, fp, re, a1, a2, a3, a4, a5, a6, a7, a8, a9, a10, a11, a12, a13, a14, a15, a16, a17, a18, a19, a20, a21, a22)) : wpX_init post mc ms (l, pc, st, fi, hd, en, fp, re) := by
  unfold wpX_init
  refine ⟨by omega, by omega, by omega, by omega, by omega, by omega, by omega, by omega, by omega, by omega, by omega, by omega, by omega, by omega, by omega, by omega, by omega, by omega, by omega, by omega, by omega, by omega, by omega, by omega, by omega, by omega, by omega, by omega, by omega, by omega, by omega, by omega, by omega, by omega, by omega, by omega, by omega, by omega, by omega, by omega, by omega, by omega, by omega, by omega, ?_⟩
  exact tf_fg (fun s => tf_sq (fun s' => H _ _ _ _ _ _ _ _ _ _ _ _ _ _ _ _ _ _ _ _ _ _ _ _ _ _ _ _ _))
theorem tf_e173 {post : Int32 → St2 → Prop} {z0 op : Int32} {pc st fi hd en fp re : Int32} {a1 a2 a3 a4 a5 a6 a7 a8 a9 a10 a11 a12 a13 a14 a15 a16 a17 a18 a19 a20 a21 a22 : Nat → Int32} (ho : a1 0 = op) (H : ∀ (pc st fi hd en fp re : Int32) (a1 a2 a3 a4 a5 a6 a7 a8 a9 a10 a11 a12 a13 a14 a15 a16 a17 a18 a19 a20 a21 a22 : Nat → Int32), a1 0 = op → post 1 (1, pc, st, fi, hd, en, fp, re, a1, a2, a3, a4, a5, a6, a7, a8, a9, a10, a11, a12, a13, a14, a15, a16, a17, a18, a19, a20, a21, a22)) : wX_emit_173 post z0 0 0 pc st fi hd en fp re a1 a2 a3 a4 a5 a6 a7 a8 a9 a10 a11 a12 a13 a14 a15 a16 a17 a18 a19 a20 a21 a22 := by
  unfold wX_emit_173
  exact ⟨pk_in 0 24 (by omega), nm_e ⟨pk_in 0 24 (by omega), nm_e (nm_r (e' := 1) (by decide) (tf_fg (fun s => H _ _ _ _ _ _ _ _ _ _ _ _ _ _ _ _ _ _ _ _ _ _ _ _ _ _ _ _ _ ho)))⟩⟩
theorem tf_e110 {post : Int32 → St2 → Prop} {x1 x2 x3 x4 : Int32} {pc st fi hd en fp re : Int32} {a1 a2 a3 a4 a5 a6 a7 a8 a9 a10 a11 a12 a13 a14 a15 a16 a17 a18 a19 a20 a21 a22 : Nat → Int32} (H : ∀ (pc st fi hd en fp re : Int32) (a1 a2 a3 a4 a5 a6 a7 a8 a9 a10 a11 a12 a13 a14 a15 a16 a17 a18 a19 a20 a21 a22 : Nat → Int32), a1 0 = x1.toInt8.toInt32 → post 1 (1, pc, st, fi, hd, en, fp, re, a1, a2, a3, a4, a5, a6, a7, a8, a9, a10, a11, a12, a13, a14, a15, a16, a17, a18, a19, a20, a21, a22)) : wX_emit_110 post x1 x2 x3 x4 0 pc st fi hd en fp re a1 a2 a3 a4 a5 a6 a7 a8 a9 a10 a11 a12 a13 a14 a15 a16 a17 a18 a19 a20 a21 a22 := by
  have ho : upd a1 (0 : Int32).toNatClampNeg x1.toInt8.toInt32 0 = x1.toInt8.toInt32 := by
    rw [sb_cl0]
    exact pk_us
  unfold wX_emit_110
  exact ⟨pk_in 0 24 (by omega), nm_e ⟨pk_in 0 24 (by omega), nm_e ⟨pk_in 0 24 (by omega), nm_e (br_c (fun _ => tf_e173 ho H) (fun _ => br_c (fun _ => tf_e173 ho H) (fun _ => tf_e173 ho H)))⟩⟩⟩
theorem tf_e94 {post : Int32 → St2 → Prop} {x1 x2 x3 x4 : Int32} {l pc st fi hd en fp re : Int32} {a1 a2 a3 a4 a5 a6 a7 a8 a9 a10 a11 a12 a13 a14 a15 a16 a17 a18 a19 a20 a21 a22 : Nat → Int32} (h0 : tf_c94 x1 x2 = false → post (-1) (l, pc, st, fi, hd, en, fp, re, a1, a2, a3, a4, a5, a6, a7, a8, a9, a10, a11, a12, a13, a14, a15, a16, a17, a18, a19, a20, a21, a22)) (h1 : tf_c94 x1 x2 = true → wX_emit_110 post x1 x2 x3 x4 l pc st fi hd en fp re a1 a2 a3 a4 a5 a6 a7 a8 a9 a10 a11 a12 a13 a14 a15 a16 a17 a18 a19 a20 a21 a22) : wX_emit_94 post x1 x2 x3 x4 l pc st fi hd en fp re a1 a2 a3 a4 a5 a6 a7 a8 a9 a10 a11 a12 a13 a14 a15 a16 a17 a18 a19 a20 a21 a22 := by
  unfold wX_emit_94
  unfold tf_c94 at h0 h1
  refine br_c (fun e => tf_wtar (tf_br (fun b => h0 ?_) (fun b => h1 ?_))) (fun e => h1 ?_)
  · rw [decide_eq_true e, b]; rfl
  · rw [decide_eq_true e, b]; rfl
  · rw [decide_eq_false e]; rfl
theorem tf_e84 {post : Int32 → St2 → Prop} {x1 x2 x3 x4 : Int32} {l pc st fi hd en fp re : Int32} {a1 a2 a3 a4 a5 a6 a7 a8 a9 a10 a11 a12 a13 a14 a15 a16 a17 a18 a19 a20 a21 a22 : Nat → Int32} (h0 : (tf_in x3 23 && tf_c94 x1 x2) = false → post (-1) (l, pc, st, fi, hd, en, fp, re, a1, a2, a3, a4, a5, a6, a7, a8, a9, a10, a11, a12, a13, a14, a15, a16, a17, a18, a19, a20, a21, a22)) (h1 : (tf_in x3 23 && tf_c94 x1 x2) = true → wX_emit_110 post x1 x2 x3 x4 l pc st fi hd en fp re a1 a2 a3 a4 a5 a6 a7 a8 a9 a10 a11 a12 a13 a14 a15 a16 a17 a18 a19 a20 a21 a22) : wX_emit_84 post x1 x2 x3 x4 l pc st fi hd en fp re a1 a2 a3 a4 a5 a6 a7 a8 a9 a10 a11 a12 a13 a14 a15 a16 a17 a18 a19 a20 a21 a22 := by
  unfold wX_emit_84
  refine tf_wtar (tf_br (fun b => h0 ?_) (fun b => tf_e94 (fun c => h0 ?_) (fun c => h1 ?_)))
  · rw [b]; rfl
  · rw [b, c]; rfl
  · rw [b, c]; rfl
theorem tf_e72 {post : Int32 → St2 → Prop} {x1 x2 x3 x4 : Int32} {l pc st fi hd en fp re : Int32} {a1 a2 a3 a4 a5 a6 a7 a8 a9 a10 a11 a12 a13 a14 a15 a16 a17 a18 a19 a20 a21 a22 : Nat → Int32} (h0 : tf_c72 x1 x2 x3 = false → post (-1) (l, pc, st, fi, hd, en, fp, re, a1, a2, a3, a4, a5, a6, a7, a8, a9, a10, a11, a12, a13, a14, a15, a16, a17, a18, a19, a20, a21, a22)) (h1 : tf_c72 x1 x2 x3 = true → wX_emit_110 post x1 x2 x3 x4 l pc st fi hd en fp re a1 a2 a3 a4 a5 a6 a7 a8 a9 a10 a11 a12 a13 a14 a15 a16 a17 a18 a19 a20 a21 a22) : wX_emit_72 post x1 x2 x3 x4 l pc st fi hd en fp re a1 a2 a3 a4 a5 a6 a7 a8 a9 a10 a11 a12 a13 a14 a15 a16 a17 a18 a19 a20 a21 a22 := by
  unfold wX_emit_72
  unfold tf_c72 at h0 h1
  refine br_c (fun e => tf_e84 (fun b => h0 ?_) (fun b => h1 ?_)) (fun e => br_c (fun e2 => tf_e84 (fun b => h0 ?_) (fun b => h1 ?_)) (fun e2 => tf_e94 (fun b => h0 ?_) (fun b => h1 ?_)))
  · rw [decide_eq_true e]; exact b
  · rw [decide_eq_true e]; exact b
  · rw [decide_eq_true e2, Bool.or_true]; exact b
  · rw [decide_eq_true e2, Bool.or_true]; exact b
  · rw [decide_eq_false e, decide_eq_false e2]; exact b
  · rw [decide_eq_false e, decide_eq_false e2]; exact b
theorem tf_e56 {post : Int32 → St2 → Prop} {x1 x2 x3 x4 : Int32} {l pc st fi hd en fp re : Int32} {a1 a2 a3 a4 a5 a6 a7 a8 a9 a10 a11 a12 a13 a14 a15 a16 a17 a18 a19 a20 a21 a22 : Nat → Int32} (h0 : tf_c56 x1 x2 x3 x4 = false → post (-1) (l, pc, st, fi, hd, en, fp, re, a1, a2, a3, a4, a5, a6, a7, a8, a9, a10, a11, a12, a13, a14, a15, a16, a17, a18, a19, a20, a21, a22)) (h1 : tf_c56 x1 x2 x3 x4 = true → wX_emit_110 post x1 x2 x3 x4 l pc st fi hd en fp re a1 a2 a3 a4 a5 a6 a7 a8 a9 a10 a11 a12 a13 a14 a15 a16 a17 a18 a19 a20 a21 a22) : wX_emit_56 post x1 x2 x3 x4 l pc st fi hd en fp re a1 a2 a3 a4 a5 a6 a7 a8 a9 a10 a11 a12 a13 a14 a15 a16 a17 a18 a19 a20 a21 a22 := by
  unfold wX_emit_56
  unfold tf_c56 at h0 h1
  refine br_c (fun e => tf_e72 (fun b => h0 ?_) (fun b => h1 ?_)) (fun e => tf_wreg (tf_br (fun c => h0 ?_) (fun c => tf_e72 (fun b => h0 ?_) (fun b => h1 ?_))))
  · rw [decide_eq_true e]; exact b
  · rw [decide_eq_true e]; exact b
  · rw [decide_eq_false e, c]; rfl
  · rw [decide_eq_false e, c]; exact b
  · rw [decide_eq_false e, c]; exact b
theorem tf_e40 {post : Int32 → St2 → Prop} {x1 x2 x3 x4 : Int32} {l pc st fi hd en fp re : Int32} {a1 a2 a3 a4 a5 a6 a7 a8 a9 a10 a11 a12 a13 a14 a15 a16 a17 a18 a19 a20 a21 a22 : Nat → Int32} (h0 : tf_c40 x1 x2 x3 x4 = false → post (-1) (l, pc, st, fi, hd, en, fp, re, a1, a2, a3, a4, a5, a6, a7, a8, a9, a10, a11, a12, a13, a14, a15, a16, a17, a18, a19, a20, a21, a22)) (h1 : tf_c40 x1 x2 x3 x4 = true → wX_emit_110 post x1 x2 x3 x4 l pc st fi hd en fp re a1 a2 a3 a4 a5 a6 a7 a8 a9 a10 a11 a12 a13 a14 a15 a16 a17 a18 a19 a20 a21 a22) : wX_emit_40 post x1 x2 x3 x4 l pc st fi hd en fp re a1 a2 a3 a4 a5 a6 a7 a8 a9 a10 a11 a12 a13 a14 a15 a16 a17 a18 a19 a20 a21 a22 := by
  unfold wX_emit_40
  unfold tf_c40 at h0 h1
  refine br_c (fun e => tf_e56 (fun b => h0 ?_) (fun b => h1 ?_)) (fun e => tf_wreg (tf_br (fun c => h0 ?_) (fun c => tf_e56 (fun b => h0 ?_) (fun b => h1 ?_))))
  · rw [decide_eq_true e]; exact b
  · rw [decide_eq_true e]; exact b
  · rw [decide_eq_false e, c]; rfl
  · rw [decide_eq_false e, c]; exact b
  · rw [decide_eq_false e, c]; exact b
/-- emit into an empty program -/
theorem tf_emit {post : Int32 → St2 → Prop} {op x y z : Int32} {pc st fi hd en fp re : Int32} {a1 a2 a3 a4 a5 a6 a7 a8 a9 a10 a11 a12 a13 a14 a15 a16 a17 a18 a19 a20 a21 a22 : Nat → Int32} (h0 : tf_cE op x y z = false → post (-1) (0, pc, st, fi, hd, en, fp, re, a1, a2, a3, a4, a5, a6, a7, a8, a9, a10, a11, a12, a13, a14, a15, a16, a17, a18, a19, a20, a21, a22)) (h1 : tf_cE op x y z = true → ∀ (pc st fi hd en fp re : Int32) (a1 a2 a3 a4 a5 a6 a7 a8 a9 a10 a11 a12 a13 a14 a15 a16 a17 a18 a19 a20 a21 a22 : Nat → Int32), a1 0 = op → post 1 (1, pc, st, fi, hd, en, fp, re, a1, a2, a3, a4, a5, a6, a7, a8, a9, a10, a11, a12, a13, a14, a15, a16, a17, a18, a19, a20, a21, a22)) : wpX_emit post (0, pc, st, fi, hd, en, fp, re, a1, a2, a3, a4, a5, a6, a7, a8, a9, a10, a11, a12, a13, a14, a15, a16, a17, a18, a19, a20, a21, a22) op x y z := by
  unfold wpX_emit
  refine br_t (by decide) (br_c (fun e => h0 ?_) (fun e => br_c (fun e2 => ?_) (fun e2 => h0 ?_)))
  · unfold tf_cE
    rw [tf_inF1 e]; rfl
  · have hi : tf_in op 10 = true := tf_inT e (Int32.not_lt.mpr e2)
    have h1' : tf_cE op x y z = true → wX_emit_110 post op x y z 0 pc st fi hd en fp re a1 a2 a3 a4 a5 a6 a7 a8 a9 a10 a11 a12 a13 a14 a15 a16 a17 a18 a19 a20 a21 a22 := fun b => tf_e110 (fun pc st fi hd en fp re a1 a2 a3 a4 a5 a6 a7 a8 a9 a10 a11 a12 a13 a14 a15 a16 a17 a18 a19 a20 a21 a22 ho => h1 b pc st fi hd en fp re a1 a2 a3 a4 a5 a6 a7 a8 a9 a10 a11 a12 a13 a14 a15 a16 a17 a18 a19 a20 a21 a22 (ho.trans (tf_byte hi)))
    have hE : tf_cE op x y z = ((decide (8 < op) || tf_in x 7) && tf_c40 op x y z) := by
      unfold tf_cE
      rw [hi]; rfl
    rw [hE] at h0 h1'
    refine br_c (fun e3 => tf_e40 (fun b => h0 ?_) (fun b => h1' ?_)) (fun e3 => tf_wreg (tf_br (fun c => h0 ?_) (fun c => tf_e40 (fun b => h0 ?_) (fun b => h1' ?_))))
    · rw [decide_eq_true e3]; exact b
    · rw [decide_eq_true e3]; exact b
    · rw [decide_eq_false e3, c]; rfl
    · rw [decide_eq_false e3, c]; exact b
    · rw [decide_eq_false e3, c]; exact b
  · unfold tf_cE
    rw [tf_inF2 (Int32.not_le.mp e2)]; rfl
/-- what amend answers -/
def tf_am (f : Bool) (op i v : Int32) : Int32 := cond (f && (decide (i = 0) && (tf_num op || (tf_tgt op && tf_in v 23)))) 0 (-1)
theorem tf_a50 {post : Int32 → St2 → Prop} {v : Int32} {l pc st fi hd en fp re : Int32} {a1 a2 a3 a4 a5 a6 a7 a8 a9 a10 a11 a12 a13 a14 a15 a16 a17 a18 a19 a20 a21 a22 : Nat → Int32} (H : ∀ (l pc st fi hd en fp re : Int32) (a1 a2 a3 a4 a5 a6 a7 a8 a9 a10 a11 a12 a13 a14 a15 a16 a17 a18 a19 a20 a21 a22 : Nat → Int32), post 0 (l, pc, st, fi, hd, en, fp, re, a1, a2, a3, a4, a5, a6, a7, a8, a9, a10, a11, a12, a13, a14, a15, a16, a17, a18, a19, a20, a21, a22)) : wX_amend_50 post 0 v l pc st fi hd en fp re a1 a2 a3 a4 a5 a6 a7 a8 a9 a10 a11 a12 a13 a14 a15 a16 a17 a18 a19 a20 a21 a22 := by
  unfold wX_amend_50
  exact ⟨pk_in 0 24 (by omega), nm_e (tf_fg (fun s => H _ _ _ _ _ _ _ _ _ _ _ _ _ _ _ _ _ _ _ _ _ _ _ _ _ _ _ _ _ _))⟩
theorem tf_amend {post : Int32 → St2 → Prop} {f : Bool} {op i v : Int32} {l pc st fi hd en fp re : Int32} {a1 a2 a3 a4 a5 a6 a7 a8 a9 a10 a11 a12 a13 a14 a15 a16 a17 a18 a19 a20 a21 a22 : Nat → Int32} (hl : l = tf_b f) (ho : f = true → a1 0 = op ∧ tf_in op 10 = true) (H : ∀ (l pc st fi hd en fp re : Int32) (a1 a2 a3 a4 a5 a6 a7 a8 a9 a10 a11 a12 a13 a14 a15 a16 a17 a18 a19 a20 a21 a22 : Nat → Int32), post (tf_am f op i v) (l, pc, st, fi, hd, en, fp, re, a1, a2, a3, a4, a5, a6, a7, a8, a9, a10, a11, a12, a13, a14, a15, a16, a17, a18, a19, a20, a21, a22)) : wpX_amend post (l, pc, st, fi, hd, en, fp, re, a1, a2, a3, a4, a5, a6, a7, a8, a9, a10, a11, a12, a13, a14, a15, a16, a17, a18, a19, a20, a21, a22) i v := by
  subst hl
  unfold wpX_amend
  cases f
  · exact br_c (fun _ => H _ _ _ _ _ _ _ _ _ _ _ _ _ _ _ _ _ _ _ _ _ _ _ _ _ _ _ _ _ _) (fun e => br_f e (H _ _ _ _ _ _ _ _ _ _ _ _ _ _ _ _ _ _ _ _ _ _ _ _ _ _ _ _ _ _))
  · obtain ⟨ha, hi⟩ := ho rfl
    refine br_c (fun e => ?_) (fun e => br_c (fun e2 => ?_) (fun e2 => ?_))
    · have n : ¬ i = 0 := by
        intro z
        rw [z] at e
        exact absurd e (by decide)
      have k : tf_am true op i v = -1 := by
        unfold tf_am
        rw [decide_eq_false n]; rfl
      rw [k] at H
      exact H _ _ _ _ _ _ _ _ _ _ _ _ _ _ _ _ _ _ _ _ _ _ _ _ _ _ _ _ _ _
    · have z : i = 0 := by
        obtain ⟨j, hj, rfl⟩ := nI_of e
        have q : j < 1 := (nI_ltI hj (by decide)).mp e2
        have q0 : j = 0 := by omega
        rw [q0]; rfl
      subst z
      have k : tf_am true op 0 v = cond (tf_num op || (tf_tgt op && tf_in v 23)) 0 (-1) := rfl
      rw [k] at H
      obtain ⟨r1, r2, r3, r4⟩ := tf_road hi
      refine ⟨pk_in 0 24 (by omega), nm_r (e' := op) (by rw [sb_cl0]; exact ha) (br_c (fun g => ?_) (fun g => br_c (fun g2 => ?_) (fun g2 => br_c (fun g3 => ?_) (fun g3 => ?_))))⟩
      · rw [(r1 g).1, (r1 g).2] at H
        exact H _ _ _ _ _ _ _ _ _ _ _ _ _ _ _ _ _ _ _ _ _ _ _ _ _ _ _ _ _ _
      · rw [(r2 g2).1, (r2 g2).2] at H
        exact H _ _ _ _ _ _ _ _ _ _ _ _ _ _ _ _ _ _ _ _ _ _ _ _ _ _ _ _ _ _
      · rw [r3 g g3] at H
        exact tf_a50 H
      · rw [(r4 g2 g3).1, (r4 g2 g3).2] at H
        refine tf_wtar (tf_br (fun c => ?_) (fun c => ?_))
        · rw [c] at H
          exact H _ _ _ _ _ _ _ _ _ _ _ _ _ _ _ _ _ _ _ _ _ _ _ _ _ _ _ _ _ _
        · rw [c] at H
          exact tf_a50 H
    · have n : ¬ i = 0 := by
        intro z
        rw [z] at e2
        exact absurd (show (0 : Int32) < 1 by decide) e2
      have k : tf_am true op i v = -1 := by
        unfold tf_am
        rw [decide_eq_false n]; rfl
      rw [k] at H
      exact H _ _ _ _ _ _ _ _ _ _ _ _ _ _ _ _ _ _ _ _ _ _ _ _ _ _ _ _ _ _
theorem tf_setR {post : Int32 → St2 → Prop} {i v : Int32} {l pc st fi hd en fp re : Int32} {a1 a2 a3 a4 a5 a6 a7 a8 a9 a10 a11 a12 a13 a14 a15 a16 a17 a18 a19 a20 a21 a22 : Nat → Int32} (h0 : tf_in i 7 = false → post 0 (l, pc, st, fi, hd, en, fp, re, a1, a2, a3, a4, a5, a6, a7, a8, a9, a10, a11, a12, a13, a14, a15, a16, a17, a18, a19, a20, a21, a22)) (h1 : tf_in i 7 = true → ∀ s : Nat → Int32, s i.toNatClampNeg = v → post 1 (l, pc, st, fi, hd, en, fp, re, a1, a2, a3, a4, s, a6, a7, a8, a9, a10, a11, a12, a13, a14, a15, a16, a17, a18, a19, a20, a21, a22)) : wpX_setRegister post (l, pc, st, fi, hd, en, fp, re, a1, a2, a3, a4, a5, a6, a7, a8, a9, a10, a11, a12, a13, a14, a15, a16, a17, a18, a19, a20, a21, a22) i v := by
  unfold wpX_setRegister
  exact tf_wreg (tf_br (fun e => h0 e) (fun e => ⟨tf_vin (n := 7) rfl (by omega) e, nm_e (h1 e _ pk_us)⟩))
theorem tf_reg {post : Int32 → Prop} {i : Int32} {l pc st fi hd en fp re : Int32} {a1 a2 a3 a4 a5 a6 a7 a8 a9 a10 a11 a12 a13 a14 a15 a16 a17 a18 a19 a20 a21 a22 : Nat → Int32} (h : post (cond (tf_in i 7) (a5 i.toNatClampNeg) 0)) : wpX_register post (l, pc, st, fi, hd, en, fp, re, a1, a2, a3, a4, a5, a6, a7, a8, a9, a10, a11, a12, a13, a14, a15, a16, a17, a18, a19, a20, a21, a22) i := by
  unfold wpX_register
  refine tf_wreg (tf_br (fun e => ?_) (fun e => ⟨tf_vin (n := 7) rfl (by omega) e, ?_⟩))
  · rw [e] at h
    exact h
  · rw [e] at h
    exact h
theorem tf_setM {post : Int32 → St2 → Prop} {i v : Int32} {l pc st fi hd en fp re : Int32} {a1 a2 a3 a4 a5 a6 a7 a8 a9 a10 a11 a12 a13 a14 a15 a16 a17 a18 a19 a20 a21 a22 : Nat → Int32} (h0 : tf_in i 15 = false → post 0 (l, pc, st, fi, hd, en, fp, re, a1, a2, a3, a4, a5, a6, a7, a8, a9, a10, a11, a12, a13, a14, a15, a16, a17, a18, a19, a20, a21, a22)) (h1 : tf_in i 15 = true → ∀ s : Nat → Int32, s i.toNatClampNeg = v → post 1 (l, pc, st, fi, hd, en, fp, re, a1, a2, a3, a4, a5, s, a7, a8, a9, a10, a11, a12, a13, a14, a15, a16, a17, a18, a19, a20, a21, a22)) : wpX_setMemory post (l, pc, st, fi, hd, en, fp, re, a1, a2, a3, a4, a5, a6, a7, a8, a9, a10, a11, a12, a13, a14, a15, a16, a17, a18, a19, a20, a21, a22) i v := by
  unfold wpX_setMemory
  exact br_c (fun e => h0 (tf_inF1 e)) (fun e => br_c (fun e2 => ⟨tf_vin (n := 15) rfl (by omega) (tf_inT e (Int32.not_lt.mpr e2)), nm_e (h1 (tf_inT e (Int32.not_lt.mpr e2)) _ pk_us)⟩) (fun e2 => h0 (tf_inF2 (Int32.not_le.mp e2))))
theorem tf_mem {post : Int32 → Prop} {i : Int32} {l pc st fi hd en fp re : Int32} {a1 a2 a3 a4 a5 a6 a7 a8 a9 a10 a11 a12 a13 a14 a15 a16 a17 a18 a19 a20 a21 a22 : Nat → Int32} (h : post (cond (tf_in i 15) (a6 i.toNatClampNeg) 0)) : wpX_memory post (l, pc, st, fi, hd, en, fp, re, a1, a2, a3, a4, a5, a6, a7, a8, a9, a10, a11, a12, a13, a14, a15, a16, a17, a18, a19, a20, a21, a22) i := by
  unfold wpX_memory
  refine br_c (fun e => ?_) (fun e => br_c (fun e2 => ⟨tf_vin (n := 15) rfl (by omega) (tf_inT e (Int32.not_lt.mpr e2)), ?_⟩) (fun e2 => ?_))
  · rw [tf_inF1 e] at h
    exact h
  · rw [tf_inT e (Int32.not_lt.mpr e2)] at h
    exact h
  · rw [tf_inF2 (Int32.not_le.mp e2)] at h
    exact h
end
section
theorem tf_win {post : Int32 → Prop} {v t : Int32} (h : post (tf_b (tf_in v t))) : wpL_in post () v t := by
  unfold wpL_in
  exact tf_core h
theorem tf_344 {post : Int32 → St0 → Prop} {mc ms kc ks : Nat} {z r : Int32} (hp : post 1 ()) (e : r = z) : wL_lawOf_344 post mc ms z r kc ks := by
  unfold wL_lawOf_344
  exact br_t e hp
theorem tf_295 {post : Int32 → St0 → Prop} {mc ms kc ks : Nat} {i v z r : Int32} {l pc st fi hd en fp re : Int32} {a1 a2 a3 a4 a5 a6 a7 a8 a9 a10 a11 a12 a13 a14 a15 a16 a17 a18 a19 a20 a21 a22 : Nat → Int32} (hp : post 1 ()) (e : r = z) : wL_lawOf_295 post mc ms i v z r kc ks l pc st fi hd en fp re a1 a2 a3 a4 a5 a6 a7 a8 a9 a10 a11 a12 a13 a14 a15 a16 a17 a18 a19 a20 a21 a22 := by
  unfold wL_lawOf_295
  refine br_t e (tf_setM (fun b => ?_) (fun b s hs => ?_))
  · refine tf_win (br_t (by rw [b]; rfl) (tf_mem (tf_win (tf_br (fun _ => tf_344 hp ?_) (fun c => ?_)))))
    · rw [b]; rfl
    · rw [b] at c
      exact Bool.noConfusion c
  · refine tf_win (br_t (by rw [b]; rfl) (tf_mem (tf_win (tf_br (fun c => ?_) (fun _ => tf_344 hp ?_)))))
    · rw [b] at c
      exact Bool.noConfusion c
    · rw [b]
      exact hs
theorem tf_246 {post : Int32 → St0 → Prop} {mc ms kc ks : Nat} {i v z r : Int32} {l pc st fi hd en fp re : Int32} {a1 a2 a3 a4 a5 a6 a7 a8 a9 a10 a11 a12 a13 a14 a15 a16 a17 a18 a19 a20 a21 a22 : Nat → Int32} (hp : post 1 ()) (e : r = z) : wL_lawOf_246 post mc ms i v z r kc ks l pc st fi hd en fp re a1 a2 a3 a4 a5 a6 a7 a8 a9 a10 a11 a12 a13 a14 a15 a16 a17 a18 a19 a20 a21 a22 := by
  unfold wL_lawOf_246
  refine br_t e (tf_setR (fun b => ?_) (fun b s hs => ?_))
  · refine tf_win (br_t (by rw [b]; rfl) (tf_reg (tf_win (tf_br (fun _ => tf_295 hp ?_) (fun c => ?_)))))
    · rw [b]; rfl
    · rw [b] at c
      exact Bool.noConfusion c
  · refine tf_win (br_t (by rw [b]; rfl) (tf_reg (tf_win (tf_br (fun c => ?_) (fun _ => tf_295 hp ?_)))))
    · rw [b] at c
      exact Bool.noConfusion c
    · rw [b]
      exact hs
theorem tf_245 {post : Int32 → St0 → Prop} {mc ms kc ks : Nat} {i v r : Int32} {l pc st fi hd en fp re : Int32} {a1 a2 a3 a4 a5 a6 a7 a8 a9 a10 a11 a12 a13 a14 a15 a16 a17 a18 a19 a20 a21 a22 : Nat → Int32} (hp : post 1 ()) (e : r = -1) : wL_lawOf_245 post mc ms i v r kc ks l pc st fi hd en fp re a1 a2 a3 a4 a5 a6 a7 a8 a9 a10 a11 a12 a13 a14 a15 a16 a17 a18 a19 a20 a21 a22 := by
  unfold wL_lawOf_245
  exact tf_246 hp e
theorem tf_241 {post : Int32 → St0 → Prop} {mc ms kc ks : Nat} {i v r : Int32} {l pc st fi hd en fp re : Int32} {a1 a2 a3 a4 a5 a6 a7 a8 a9 a10 a11 a12 a13 a14 a15 a16 a17 a18 a19 a20 a21 a22 : Nat → Int32} (hp : post 1 ()) (e : r = 0) : wL_lawOf_241 post mc ms i v r kc ks l pc st fi hd en fp re a1 a2 a3 a4 a5 a6 a7 a8 a9 a10 a11 a12 a13 a14 a15 a16 a17 a18 a19 a20 a21 a22 := by
  unfold wL_lawOf_241
  exact tf_246 hp e
theorem tf_197 {post : Int32 → St0 → Prop} {mc ms kc ks : Nat} {f : Bool} {op i v z r : Int32} {l pc st fi hd en fp re : Int32} {a1 a2 a3 a4 a5 a6 a7 a8 a9 a10 a11 a12 a13 a14 a15 a16 a17 a18 a19 a20 a21 a22 : Nat → Int32} (hp : post 1 ()) (e : r = z) (hl : l = tf_b f) (ho : f = true → a1 0 = op ∧ tf_in op 10 = true) : wL_lawOf_197 post mc ms i v (tf_b f) (tf_b (tf_num op)) (tf_b (tf_tgt op)) z r kc ks l pc st fi hd en fp re a1 a2 a3 a4 a5 a6 a7 a8 a9 a10 a11 a12 a13 a14 a15 a16 a17 a18 a19 a20 a21 a22 := by
  unfold wL_lawOf_197
  refine br_t e (tf_amend hl ho (fun l pc st fi hd en fp re a1 a2 a3 a4 a5 a6 a7 a8 a9 a10 a11 a12 a13 a14 a15 a16 a17 a18 a19 a20 a21 a22 => ?_))
  refine tf_br (fun b => tf_245 hp ?_) (fun b => br_c (fun c => tf_br (fun d => tf_br (fun g => tf_245 hp ?_) (fun g => tf_win (tf_br (fun k => tf_245 hp ?_) (fun k => tf_241 hp ?_)))) (fun d => tf_241 hp ?_)) (fun c => tf_245 hp ?_))
  · rw [b]; rfl
  · unfold tf_am
    rw [b, decide_eq_true c, d, g]; rfl
  · unfold tf_am
    rw [b, decide_eq_true c, d, g, k]; rfl
  · unfold tf_am
    rw [b, decide_eq_true c, d, g, k]; rfl
  · unfold tf_am
    rw [b, decide_eq_true c, d]; rfl
  · unfold tf_am
    rw [b, decide_eq_false c]; rfl
theorem tf_167 {post : Int32 → St0 → Prop} {mc ms : Nat} {op x y z i v : Int32} (hp : post 1 ()) (hc : 23 ≤ mc) (hs : 305 ≤ ms) : wL_lawOf_167 post mc ms op x y z i v (tf_b (tf_f3 op x y z)) (tf_b (tf_num op)) (tf_b (tf_tgt op)) 0 0 := by
  unfold wL_lawOf_167
  refine ⟨by omega, by omega, 22, 275, by omega, by omega, tf_init (by omega) (by omega) (fun pc st fi hd en fp re a1 a2 a3 a4 a5 a6 a7 a8 a9 a10 a11 a12 a13 a14 a15 a16 a17 a18 a19 a20 a21 a22 => ?_)⟩
  refine tf_emit (fun b => ?_) (fun b pc st fi hd en fp re a1 a2 a3 a4 a5 a6 a7 a8 a9 a10 a11 a12 a13 a14 a15 a16 a17 a18 a19 a20 a21 a22 ho => ?_)
  · rw [tf_fits, b]
    exact tf_br (fun _ => tf_197 (f := false) hp rfl rfl (fun h => Bool.noConfusion h)) (fun c => Bool.noConfusion c)
  · rw [tf_fits, b]
    exact tf_br (fun c => Bool.noConfusion c) (fun _ => tf_197 (f := true) hp rfl rfl (fun _ => ⟨ho, tf_fits_op b⟩))
theorem tf_148 {post : Int32 → St0 → Prop} {mc ms kc ks : Nat} {op x y z i v f n : Int32} (H : wL_lawOf_167 post mc ms op x y z i v f n (tf_b (tf_tgt op)) kc ks) : wL_lawOf_148 post mc ms op x y z i v f n kc ks := by
  unfold wL_lawOf_148
  unfold tf_tgt at H
  refine br_c (fun e => ?_) (fun e => br_c (fun e2 => ?_) (fun e2 => ?_))
  · rw [decide_eq_true e] at H
    exact H
  · rw [decide_eq_true e2, Bool.not_true, Bool.and_false] at H
    exact H
  · rw [decide_eq_false e, decide_eq_false e2] at H
    exact H
theorem tf_132 {post : Int32 → St0 → Prop} {mc ms kc ks : Nat} {op x y z i v f : Int32} (H : wL_lawOf_148 post mc ms op x y z i v f (tf_b (tf_num op)) kc ks) : wL_lawOf_132 post mc ms op x y z i v f kc ks := by
  unfold wL_lawOf_132
  unfold tf_num at H
  refine br_c (fun e => ?_) (fun e => br_c (fun e2 => ?_) (fun e2 => ?_))
  · rw [decide_eq_true e] at H
    exact H
  · rw [decide_eq_true e2, Bool.not_true, Bool.and_false] at H
    exact H
  · rw [decide_eq_false e, decide_eq_false e2] at H
    exact H
theorem tf_111 {post : Int32 → St0 → Prop} {mc ms kc ks : Nat} {op x y z i v : Int32} {f : Bool} (H : wL_lawOf_132 post mc ms op x y z i v (tf_b (f && tf_in y 23)) kc ks) : wL_lawOf_111 post mc ms op x y z i v (tf_b f) kc ks := by
  unfold wL_lawOf_111
  refine tf_br (fun e => ?_) (fun e => tf_win (tf_br (fun c => ?_) (fun c => ?_)))
  · rw [e] at H
    exact H
  · rw [e, c] at H
    exact H
  · rw [e, c] at H
    exact H
theorem tf_99 {post : Int32 → St0 → Prop} {mc ms kc ks : Nat} {op x y z i v : Int32} {f : Bool} (H : wL_lawOf_132 post mc ms op x y z i v (tf_b (f && (!(decide (op = 7) || decide (op = 8)) || tf_in y 23))) kc ks) : wL_lawOf_99 post mc ms op x y z i v (tf_b f) kc ks := by
  unfold wL_lawOf_99
  refine br_c (fun e => tf_111 ?_) (fun e => br_c (fun e2 => tf_111 ?_) (fun e2 => ?_))
  · rw [decide_eq_true e] at H
    exact H
  · rw [decide_eq_true e2, Bool.or_true] at H
    exact H
  · rw [decide_eq_false e, decide_eq_false e2, Bool.or_false, Bool.not_false, Bool.true_or, Bool.and_true] at H
    exact H
theorem tf_73 {post : Int32 → St0 → Prop} {mc ms kc ks : Nat} {op x y z i v : Int32} {f : Bool} (H : wL_lawOf_99 post mc ms op x y z i v (tf_b (f && (decide (3 < op) || tf_in z 7))) kc ks) : wL_lawOf_73 post mc ms op x y z i v (tf_b f) kc ks := by
  unfold wL_lawOf_73
  refine br_c (fun e => ?_) (fun e => tf_br (fun c => ?_) (fun c => tf_win (tf_br (fun d => ?_) (fun d => ?_))))
  · rw [decide_eq_true e, Bool.true_or, Bool.and_true] at H
    exact H
  · rw [c] at H
    exact H
  · rw [decide_eq_false e, c, d] at H
    exact H
  · rw [decide_eq_false e, c, d] at H
    exact H
theorem tf_46 {post : Int32 → St0 → Prop} {mc ms kc ks : Nat} {op x y z i v : Int32} {f : Bool} (H : wL_lawOf_73 post mc ms op x y z i v (tf_b (f && (decide (6 < op) || tf_in y 7))) kc ks) : wL_lawOf_46 post mc ms op x y z i v (tf_b f) kc ks := by
  unfold wL_lawOf_46
  refine br_c (fun e => ?_) (fun e => tf_br (fun c => ?_) (fun c => tf_win (tf_br (fun d => ?_) (fun d => ?_))))
  · rw [decide_eq_true e, Bool.true_or, Bool.and_true] at H
    exact H
  · rw [c] at H
    exact H
  · rw [decide_eq_false e, c, d] at H
    exact H
  · rw [decide_eq_false e, c, d] at H
    exact H
theorem tf_33 {post : Int32 → St0 → Prop} {mc ms kc ks : Nat} {op x y z i v t : Int32} (H : wL_lawOf_46 post mc ms op x y z i v (tf_b (tf_in x t)) kc ks) : wL_lawOf_33 post mc ms op x y z i v t x kc ks := by
  unfold wL_lawOf_33
  refine tf_win (tf_br (fun d => ?_) (fun d => ?_))
  · rw [d] at H
    exact H
  · rw [d] at H
    exact H
theorem tf_lawOf {post : Int32 → St0 → Prop} {mc ms : Nat} {op x y z i v : Int32} (H : wL_lawOf_46 post mc ms op x y z i v (tf_b (tf_f0 op x)) 0 0) : wpL_lawOf post mc ms () op x y z i v := by
  unfold wpL_lawOf
  unfold tf_f0 at H
  refine tf_win (br_c (fun e => ?_) (fun e => tf_br (fun c => ?_) (fun c => br_c (fun d => tf_33 ?_) (fun d => tf_33 ?_))))
  · rw [decide_eq_true e, Bool.true_or, Bool.and_true] at H
    exact H
  · rw [c] at H
    exact H
  · rw [decide_eq_false e, c, decide_eq_true d] at H
    exact H
  · rw [decide_eq_false e, c, decide_eq_false d] at H
    exact H
theorem tf_cell {post : Int32 → Prop} {L : Nat} {xs : Nat → Int32} (hL : L ≤ 6) (k : Nat) (hk : k < 6) (H : ∀ r, post r) : wpL_cellAt post L xs () (nI k) := by
  unfold wpL_cellAt
  refine br_c (fun _ => H _) (fun e => ⟨vp_in_nI ?_ (by omega), H _⟩)
  rcases Nat.lt_or_ge k L with h | h
  · exact h
  · exact absurd (nI_le h (by omega)) e
theorem i_vc (xs : Nat → Int32) (L : Nat) (hL : L ≤ 6) : wpL_law (fun r => r = 1) L xs := by
  unfold wpL_law
  refine tf_cell hL 0 (by omega) (fun op => tf_cell hL 1 (by omega) (fun x => tf_cell hL 2 (by omega) (fun y => tf_cell hL 3 (by omega) (fun z => tf_cell hL 4 (by omega) (fun i => tf_cell hL 5 (by omega) (fun v => ⟨124, 1968, by omega, by omega, tf_lawOf (tf_46 (tf_73 (tf_99 (tf_132 (tf_148 ?_)))))⟩))))))
  exact tf_167 rfl (by omega) (by omega)
end
