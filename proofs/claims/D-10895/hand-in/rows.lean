section
/-! the law's own reckoning: which answer, how many steps; the chain of its branches, from the last to the first -/
def mr_fl (x : Int32) (P : Prop) : Prop := (x = 1 ∧ P) ∨ (x = 0 ∧ ¬ P)
def mr_here (i : Int32) : Prop := ¬ i < 0 ∧ ¬ 59 < i
def mr_four (o : Int32) : Prop := o = 3 ∨ o = 4 ∨ o = 15 ∨ o = 18 ∨ o = 19 ∨ o = 21 ∨ o = 22
def mr_three (o : Int32) : Prop := o = 16 ∨ o = 17
def mr_fits (i o n : Int32) : Prop := mr_here i ∧ (¬ o < 0 ∧ ¬ 23 < o) ∧ (mr_four o → ¬ n < 0 ∧ ¬ 3 < n) ∧ (mr_three o → ¬ n < 0 ∧ ¬ 2 < n)
def mr_brings (o : Int32) : Prop := (¬ o < 1 ∧ o ≤ 3) ∨ o = 15 ∨ o = 21
def mr_due0 (i o n d : Int32) : Prop := (¬ mr_here i ∧ d = 1) ∨ (mr_here i ∧ ¬ (mr_fits i o n ∧ ¬ o = 0) ∧ d = 0) ∨ (mr_fits i o n ∧ ¬ o = 0 ∧ d = 3)
def mr_due1 (i o n d : Int32) : Prop := (¬ mr_here i ∧ d = 1) ∨ (mr_here i ∧ ¬ mr_fits i o n ∧ d = 0) ∨ (mr_fits i o n ∧ o = 0 ∧ d = 0) ∨ (mr_fits i o n ∧ mr_brings o ∧ i = 59 ∧ d = 1) ∨ (mr_fits i o n ∧ mr_brings o ∧ ¬ i = 59 ∧ d = 0) ∨ (mr_fits i o n ∧ ¬ o = 0 ∧ ¬ mr_brings o ∧ d = 3)
def mr_due2 (i o n d : Int32) : Prop := (¬ mr_here i ∧ d = 1) ∨ (mr_here i ∧ ¬ mr_fits i o n ∧ d = 0) ∨ (mr_fits i o n ∧ o = 0 ∧ d = 0) ∨ (mr_fits i o n ∧ mr_brings o ∧ i = 59 ∧ d = 1) ∨ (mr_fits i o n ∧ mr_brings o ∧ ¬ i = 59 ∧ d = 0) ∨ (mr_fits i o n ∧ o = 13 ∧ n = i ∧ d = 2) ∨ (mr_fits i o n ∧ o = 13 ∧ ¬ n = i ∧ (n < 0 ∨ ¬ n ≤ 59) ∧ d = 1) ∨ (mr_fits i o n ∧ o = 13 ∧ ¬ n = i ∧ (¬ n < 0 ∧ n ≤ 59) ∧ d = 0) ∨ (mr_fits i o n ∧ ¬ o = 0 ∧ ¬ mr_brings o ∧ ¬ o = 13 ∧ d = 3)
/-- what is due, case by case: the flag 'fits', the answer of run, the number of steps -/
def mr_spec (i o n b d s : Int32) : Prop := (¬ mr_here i ∧ b = 0 ∧ d = 1 ∧ s = 0) ∨ (mr_here i ∧ ¬ mr_fits i o n ∧ b = 0 ∧ d = 0 ∧ s = 1) ∨ (mr_fits i o n ∧ o = 0 ∧ b = 1 ∧ d = 0 ∧ s = 1) ∨ (mr_fits i o n ∧ mr_brings o ∧ i = 59 ∧ b = 1 ∧ d = 1 ∧ s = 1) ∨ (mr_fits i o n ∧ mr_brings o ∧ ¬ i = 59 ∧ b = 1 ∧ d = 0 ∧ s = 2) ∨ (mr_fits i o n ∧ o = 13 ∧ n = i ∧ b = 1 ∧ d = 2 ∧ s = 300) ∨ (mr_fits i o n ∧ o = 13 ∧ ¬ n = i ∧ (n < 0 ∨ ¬ n ≤ 59) ∧ b = 1 ∧ d = 1 ∧ s = 1) ∨ (mr_fits i o n ∧ o = 13 ∧ ¬ n = i ∧ (¬ n < 0 ∧ n ≤ 59) ∧ b = 1 ∧ d = 0 ∧ s = 2) ∨ (mr_fits i o n ∧ ¬ o = 0 ∧ ¬ mr_brings o ∧ ¬ o = 13 ∧ b = 1 ∧ d = 3 ∧ s = 0)
theorem mr_t {x : Int32} {P : Prop} (h : mr_fl x P) (p : P) : x = 1 := h.elim (fun z => z.1) (fun z => absurd p z.2)
theorem mr_f {x : Int32} {P : Prop} (h : mr_fl x P) (p : ¬ P) : x = 0 := h.elim (fun z => absurd z.2 p) (fun z => z.1)
theorem mr_ft {P : Prop} (p : P) : mr_fl 1 P := Or.inl ⟨rfl, p⟩
theorem mr_ff {P : Prop} (p : ¬ P) : mr_fl 0 P := Or.inr ⟨rfl, p⟩
theorem mr_b0 {o : Int32} (h : mr_brings o) : ¬ o = 0 := by
  intro e
  subst e
  exact absurd h (by unfold mr_brings; decide)
theorem mr_b13 {o : Int32} (h : mr_brings o) : ¬ o = 13 := by
  intro e
  subst e
  exact absurd h (by unfold mr_brings; decide)
section
variable {post : Int32 → St0 → Prop} {mc ms : Nat} {x0 x1 x2 x3 x4 x5 x7 x8 x9 x10 x11 z0 : Int32} {kc ks : Nat}
theorem mr_L252 (H : ∀ b d s, mr_spec x0 x1 x2 b d s → wL_lawOf_302 post mc ms x0 x1 x2 x3 x4 x5 b d s kc ks) (h7 : mr_fl x7 (mr_fits x0 x1 x2)) (h8 : mr_fl x8 (mr_here x0)) (hd : mr_due2 x0 x1 x2 x11) : wL_lawOf_252 post mc ms x0 x1 x2 x3 x4 x5 x7 x8 x11 kc ks := by
  unfold wL_lawOf_252
  rcases hd with ⟨p, rfl⟩ | ⟨p, q, rfl⟩ | ⟨p, q, rfl⟩ | ⟨p, q, r, rfl⟩ | ⟨p, q, r, rfl⟩ | ⟨p, q, r, rfl⟩ | ⟨p, q, r, t, rfl⟩ | ⟨p, q, r, t, rfl⟩ | ⟨p, q, r, t, rfl⟩
  · have e7 := mr_f h7 (fun z => p z.1)
    have e8 := mr_f h8 p
    subst e7 e8
    exact br_f (by decide) (br_t rfl (H 0 1 0 (Or.inl ⟨p, rfl, rfl, rfl⟩)))
  · have e7 := mr_f h7 q
    have e8 := mr_t h8 p
    subst e7 e8
    exact br_f (by decide) (br_f (by decide) (br_f (by decide) (br_t rfl (H 0 0 1 (Or.inr (Or.inl ⟨p, q, rfl, rfl, rfl⟩))))))
  · have e7 := mr_t h7 p
    have e8 := mr_t h8 p.1
    subst e7 e8
    exact br_f (by decide) (br_f (by decide) (br_f (by decide) (br_f (by decide) (br_t q (H 1 0 1 (Or.inr (Or.inr (Or.inl ⟨p, q, rfl, rfl, rfl⟩))))))))
  · have e7 := mr_t h7 p
    have e8 := mr_t h8 p.1
    subst e7 e8
    exact br_f (by decide) (br_f (by decide) (br_f (by decide) (br_f (by decide) (br_f (mr_b0 q) (br_f (by decide) (H 1 1 1 (Or.inr (Or.inr (Or.inr (Or.inl ⟨p, q, r, rfl, rfl, rfl⟩))))))))))
  · have e7 := mr_t h7 p
    have e8 := mr_t h8 p.1
    subst e7 e8
    exact br_f (by decide) (br_f (by decide) (br_f (by decide) (br_f (by decide) (br_f (mr_b0 q) (br_t rfl (H 1 0 2 (Or.inr (Or.inr (Or.inr (Or.inr (Or.inl ⟨p, q, r, rfl, rfl, rfl⟩)))))))))))
  · have e7 := mr_t h7 p
    subst e7
    exact br_t rfl (H 1 2 300 (Or.inr (Or.inr (Or.inr (Or.inr (Or.inr (Or.inl ⟨p, q, r, rfl, rfl, rfl⟩)))))))
  · have e7 := mr_t h7 p
    have e8 := mr_t h8 p.1
    subst e7 e8
    exact br_f (by decide) (br_f (by decide) (br_f (by decide) (br_f (by decide) (br_f (by rw [q]; decide) (br_f (by decide) (H 1 1 1 (Or.inr (Or.inr (Or.inr (Or.inr (Or.inr (Or.inr (Or.inl ⟨p, q, r, t, rfl, rfl, rfl⟩)))))))))))))
  · have e7 := mr_t h7 p
    have e8 := mr_t h8 p.1
    subst e7 e8
    exact br_f (by decide) (br_f (by decide) (br_f (by decide) (br_f (by decide) (br_f (by rw [q]; decide) (br_t rfl (H 1 0 2 (Or.inr (Or.inr (Or.inr (Or.inr (Or.inr (Or.inr (Or.inr (Or.inl ⟨p, q, r, t, rfl, rfl, rfl⟩))))))))))))))
  · have e7 := mr_t h7 p
    have e8 := mr_t h8 p.1
    subst e7 e8
    exact br_f (by decide) (br_f (by decide) (br_t rfl (H 1 3 0 (Or.inr (Or.inr (Or.inr (Or.inr (Or.inr (Or.inr (Or.inr (Or.inr ⟨p, q, r, t, rfl, rfl, rfl⟩)))))))))))
theorem mr_L215 (H : ∀ b d s, mr_spec x0 x1 x2 b d s → wL_lawOf_302 post mc ms x0 x1 x2 x3 x4 x5 b d s kc ks) (h7 : mr_fl x7 (mr_fits x0 x1 x2)) (h8 : mr_fl x8 (mr_here x0)) (hd : mr_due1 x0 x1 x2 x11) : wL_lawOf_215 post mc ms x0 x1 x2 x3 x4 x5 x7 x8 x11 kc ks := by
  unfold wL_lawOf_215
  rcases hd with ⟨p, rfl⟩ | ⟨p, q, rfl⟩ | ⟨p, q, rfl⟩ | ⟨p, q, r, rfl⟩ | ⟨p, q, r, rfl⟩ | ⟨p, q, r, rfl⟩
  · exact br_t (mr_f h7 (fun z => p z.1)) (mr_L252 H h7 h8 (Or.inl ⟨p, rfl⟩))
  · exact br_t (mr_f h7 q) (mr_L252 H h7 h8 (Or.inr (Or.inl ⟨p, q, rfl⟩)))
  · exact br_f (by rw [mr_t h7 p]; decide) (br_f (by rw [q]; decide) (mr_L252 H h7 h8 (Or.inr (Or.inr (Or.inl ⟨p, q, rfl⟩)))))
  · exact br_f (by rw [mr_t h7 p]; decide) (br_f (mr_b13 q) (mr_L252 H h7 h8 (Or.inr (Or.inr (Or.inr (Or.inl ⟨p, q, r, rfl⟩))))))
  · exact br_f (by rw [mr_t h7 p]; decide) (br_f (mr_b13 q) (mr_L252 H h7 h8 (Or.inr (Or.inr (Or.inr (Or.inr (Or.inl ⟨p, q, r, rfl⟩)))))))
  · refine br_f (by rw [mr_t h7 p]; decide) (br_c (fun e => br_c (fun g => ?_) (fun g => br_c (fun k => ?_) (fun k => br_c (fun l => ?_) (fun l => ?_)))) (fun e => ?_))
    · exact mr_L252 H h7 h8 (Or.inr (Or.inr (Or.inr (Or.inr (Or.inr (Or.inl ⟨p, e, g, rfl⟩))))))
    · exact mr_L252 H h7 h8 (Or.inr (Or.inr (Or.inr (Or.inr (Or.inr (Or.inr (Or.inl ⟨p, e, g, Or.inl k, rfl⟩)))))))
    · exact mr_L252 H h7 h8 (Or.inr (Or.inr (Or.inr (Or.inr (Or.inr (Or.inr (Or.inr (Or.inl ⟨p, e, g, ⟨k, l⟩, rfl⟩))))))))
    · exact mr_L252 H h7 h8 (Or.inr (Or.inr (Or.inr (Or.inr (Or.inr (Or.inr (Or.inl ⟨p, e, g, Or.inr l, rfl⟩)))))))
    · exact mr_L252 H h7 h8 (Or.inr (Or.inr (Or.inr (Or.inr (Or.inr (Or.inr (Or.inr (Or.inr ⟨p, q, r, e, rfl⟩))))))))
theorem mr_L191 (H : ∀ b d s, mr_spec x0 x1 x2 b d s → wL_lawOf_302 post mc ms x0 x1 x2 x3 x4 x5 b d s kc ks) (h7 : mr_fl x7 (mr_fits x0 x1 x2)) (h8 : mr_fl x8 (mr_here x0)) (h9 : mr_fl x9 (mr_brings x1)) (h10 : mr_fl x10 (x0 = 59)) (hd : mr_due0 x0 x1 x2 z0) : wL_lawOf_191 post mc ms x0 x1 x2 x3 x4 x5 x7 x8 x9 x10 z0 kc ks := by
  unfold wL_lawOf_191
  rcases hd with ⟨p, rfl⟩ | ⟨p, q, rfl⟩ | ⟨p, q, rfl⟩
  · exact br_t (mr_f h7 (fun z => p z.1)) (mr_L215 H h7 h8 (Or.inl ⟨p, rfl⟩))
  · by_cases f : mr_fits x0 x1 x2
    · have o : x1 = 0 := Classical.byContradiction (fun z => q ⟨f, z⟩)
      exact br_f (by rw [mr_t h7 f]; decide) (br_t (mr_f h9 (fun z => mr_b0 z o)) (mr_L215 H h7 h8 (Or.inr (Or.inr (Or.inl ⟨f, o, rfl⟩)))))
    · exact br_t (mr_f h7 f) (mr_L215 H h7 h8 (Or.inr (Or.inl ⟨p, f, rfl⟩)))
  · refine br_f (by rw [mr_t h7 p]; decide) ?_
    by_cases b : mr_brings x1
    · refine br_f (by rw [mr_t h9 b]; decide) ?_
      by_cases l : x0 = 59
      · exact br_f (by rw [mr_t h10 l]; decide) (mr_L215 H h7 h8 (Or.inr (Or.inr (Or.inr (Or.inl ⟨p, b, l, rfl⟩)))))
      · exact br_t (mr_f h10 l) (mr_L215 H h7 h8 (Or.inr (Or.inr (Or.inr (Or.inr (Or.inl ⟨p, b, l, rfl⟩))))))
    · exact br_t (mr_f h9 b) (mr_L215 H h7 h8 (Or.inr (Or.inr (Or.inr (Or.inr (Or.inr ⟨p, q, b, rfl⟩))))))
theorem mr_L166 (H : ∀ b d s, mr_spec x0 x1 x2 b d s → wL_lawOf_302 post mc ms x0 x1 x2 x3 x4 x5 b d s kc ks) (h7 : mr_fl x7 (mr_fits x0 x1 x2)) (h8 : mr_fl x8 (mr_here x0)) (h9 : mr_fl x9 (mr_brings x1)) (h10 : mr_fl z0 (x0 = 59)) : wL_lawOf_166 post mc ms x0 x1 x2 x3 x4 x5 x7 x8 x9 z0 kc ks := by
  unfold wL_lawOf_166
  by_cases p : mr_here x0
  · refine br_f (by rw [mr_t h8 p]; decide) ?_
    by_cases f : mr_fits x0 x1 x2
    · refine br_f (by rw [mr_t h7 f]; decide) (br_c (fun o => ?_) (fun o => ?_))
      · exact mr_L191 H h7 h8 h9 h10 (Or.inr (Or.inl ⟨p, fun z => z.2 o, rfl⟩))
      · exact mr_L191 H h7 h8 h9 h10 (Or.inr (Or.inr ⟨f, o, rfl⟩))
    · exact br_t (mr_f h7 f) (mr_L191 H h7 h8 h9 h10 (Or.inr (Or.inl ⟨p, fun z => f z.1, rfl⟩)))
  · exact br_t (mr_f h8 p) (mr_L191 H h7 h8 h9 h10 (Or.inl ⟨p, rfl⟩))
theorem mr_L153 (H : ∀ b d s, mr_spec x0 x1 x2 b d s → wL_lawOf_302 post mc ms x0 x1 x2 x3 x4 x5 b d s kc ks) (h7 : mr_fl x7 (mr_fits x0 x1 x2)) (h8 : mr_fl x8 (mr_here x0)) (h9 : mr_fl z0 (mr_brings x1)) : wL_lawOf_153 post mc ms x0 x1 x2 x3 x4 x5 x7 x8 z0 kc ks := by
  unfold wL_lawOf_153
  exact br_c (fun l => mr_L166 H h7 h8 h9 (mr_ft l)) (fun l => mr_L166 H h7 h8 h9 (mr_ff l))
theorem mr_L124 (H : ∀ b d s, mr_spec x0 x1 x2 b d s → wL_lawOf_302 post mc ms x0 x1 x2 x3 x4 x5 b d s kc ks) (h7 : mr_fl x7 (mr_fits x0 x1 x2)) (h8 : mr_fl z0 (mr_here x0)) : wL_lawOf_124 post mc ms x0 x1 x2 x3 x4 x5 x7 z0 kc ks := by
  have h148 : mr_brings x1 → wL_lawOf_148 post mc ms x0 x1 x2 x3 x4 x5 x7 z0 kc ks := fun b => mr_L153 H h7 h8 (mr_ft b)
  have h136 : ¬ (¬ x1 < 1 ∧ x1 ≤ 3) → wL_lawOf_136 post mc ms x0 x1 x2 x3 x4 x5 x7 z0 kc ks := by
    intro z
    unfold wL_lawOf_136
    exact br_c (fun e => h148 (Or.inr (Or.inl e))) (fun e => br_c (fun g => h148 (Or.inr (Or.inr g))) (fun g => mr_L153 H h7 h8 (mr_ff (fun b => b.elim z (fun b => b.elim e g)))))
  unfold wL_lawOf_124
  exact br_c (fun e => h136 (fun z => z.1 e)) (fun e => br_c (fun g => h148 (Or.inl ⟨e, g⟩)) (fun g => h136 (fun z => g z.2)))
theorem mr_L107 (H : ∀ b d s, mr_spec x0 x1 x2 b d s → wL_lawOf_302 post mc ms x0 x1 x2 x3 x4 x5 b d s kc ks) (h7 : mr_fl z0 (mr_fits x0 x1 x2)) : wL_lawOf_107 post mc ms x0 x1 x2 x3 x4 x5 z0 kc ks := by
  unfold wL_lawOf_107
  exact br_c (fun e => mr_L124 H h7 (mr_ff (fun z => z.1 e))) (fun e => br_c (fun g => mr_L124 H h7 (mr_ff (fun z => z.2 g))) (fun g => mr_L124 H h7 (mr_ft ⟨e, g⟩)))
theorem mr_L45 (H : ∀ b d s, mr_spec x0 x1 x2 b d s → wL_lawOf_302 post mc ms x0 x1 x2 x3 x4 x5 b d s kc ks) (h4 : mr_fl z0 (mr_four x1)) : wL_lawOf_45 post mc ms x0 x1 x2 x3 x4 x5 z0 kc ks := by
  have no : ¬ mr_fits x0 x1 x2 → wL_lawOf_106 post mc ms x0 x1 x2 x3 x4 x5 kc ks := fun f => mr_L107 H (mr_ff f)
  have yes : mr_fits x0 x1 x2 → wL_lawOf_102 post mc ms x0 x1 x2 x3 x4 x5 kc ks := fun f => mr_L107 H (mr_ft f)
  have h81 : mr_here x0 → (¬ x1 < 0 ∧ ¬ 23 < x1) → (mr_four x1 → ¬ x2 < 0 ∧ ¬ 3 < x2) → wL_lawOf_81 post mc ms x0 x1 x2 x3 x4 x5 kc ks := by
    intro p q r
    have h93 : mr_three x1 → wL_lawOf_93 post mc ms x0 x1 x2 x3 x4 x5 kc ks := by
      intro t
      unfold wL_lawOf_93
      exact br_c (fun e => no (fun f => (f.2.2.2 t).1 e)) (fun e => br_c (fun g => no (fun f => (f.2.2.2 t).2 g)) (fun g => yes ⟨p, q, r, fun _ => ⟨e, g⟩⟩))
    unfold wL_lawOf_81
    exact br_c (fun e => h93 (Or.inl e)) (fun e => br_c (fun g => h93 (Or.inr g)) (fun g => yes ⟨p, q, r, fun t => absurd t (fun t => t.elim e g)⟩))
  unfold wL_lawOf_45
  refine br_c (fun e => no (fun f => f.1.1 e)) (fun e => br_c (fun g => no (fun f => f.1.2 g)) (fun g => br_c (fun k => no (fun f => f.2.1.1 k)) (fun k => br_c (fun l => no (fun f => f.2.1.2 l)) (fun l => ?_))))
  rcases h4 with ⟨rfl, t⟩ | ⟨rfl, t⟩
  · exact br_f (by decide) (br_c (fun u => no (fun f => (f.2.2.1 t).1 u)) (fun u => br_c (fun v => no (fun f => (f.2.2.1 t).2 v)) (fun v => h81 ⟨e, g⟩ ⟨k, l⟩ (fun _ => ⟨u, v⟩))))
  · exact br_t rfl (h81 ⟨e, g⟩ ⟨k, l⟩ (fun z => absurd z t))
theorem mr_lawOf {u : St0} (H : ∀ b d s, mr_spec x0 x1 x2 b d s → wL_lawOf_302 post mc ms x0 x1 x2 x3 x4 x5 b d s 0 0) : wpL_lawOf post mc ms u x0 x1 x2 x3 x4 x5 := by
  have h40 : mr_four x1 → wL_lawOf_40 post mc ms x0 x1 x2 x3 x4 x5 0 0 := fun t => mr_L45 H (mr_ft t)
  unfold wpL_lawOf
  exact br_c (fun e => h40 (Or.inl e)) (fun e1 => br_c (fun e => h40 (Or.inr (Or.inl e))) (fun e2 => br_c (fun e => h40 (Or.inr (Or.inr (Or.inl e)))) (fun e3 => br_c (fun e => h40 (Or.inr (Or.inr (Or.inr (Or.inl e))))) (fun e4 => br_c (fun e => h40 (Or.inr (Or.inr (Or.inr (Or.inr (Or.inl e)))))) (fun e5 => br_c (fun e => h40 (Or.inr (Or.inr (Or.inr (Or.inr (Or.inr (Or.inl e))))))) (fun e6 => br_c (fun e => h40 (Or.inr (Or.inr (Or.inr (Or.inr (Or.inr (Or.inr e))))))) (fun e7 => mr_L45 H (mr_ff (fun z => z.elim e1 (fun z => z.elim e2 (fun z => z.elim e3 (fun z => z.elim e4 (fun z => z.elim e5 (fun z => z.elim e6 e7))))))))))))))
end
end
section
/-! the small methods, any state that matches: one frame open (ff = 1), nothing or one value on its stack -/
theorem mr_fill {s b : Nat → Int32} {i : Nat} {v c : Int32} (hi : i < 2 ^ 31) (h : ∀ j, j < i → s j = c) (e : b = upd s (nI i).toNatClampNeg v) (hv : v = c) : ∀ j, j < i + 1 → b j = c := by
  intro j hj
  rw [e, nI_clamp hi]
  by_cases g : j = i
  · rw [g, pk_us, hv]
  · rw [pk_un g]
    exact h j (by omega)
theorem mr_ite {c A B : Prop} [Decidable c] {x y : Int32} {post : Int32 → Prop} (H : post (if c then x else y)) (f : post x → A) (g : post y → B) : (c → A) ∧ (¬ c → B) := by
  constructor
  · intro h
    rw [if_pos h] at H
    exact f H
  · intro h
    rw [if_neg h] at H
    exact g H
theorem mr_in16 {i k : Nat} (hi : i < 4) (hk : k < 4) : vp_in ((4 * nI i) + nI k) 16 := pk_in (4 * i + k) 16 (by omega) (by rw [show (4 : Int32) = nI 4 from rfl, pk_mul, nI_add])
theorem mr_top {post : Int32 → Prop} {fp fl ff fo fy fr fm fs fd fq fn fc fw : Int32} {a1 a2 a3 a4 a5 a6 a7 a8 a9 a10 a11 a12 a13 a14 a15 a16 a17 a18 a19 a20 a21 a22 : Nat → Int32} (H : post (ff - 1)) : wpX_top post (fp, fl, ff, fo, fy, fr, fm, fs, fd, fq, fn, fc, fw, a1, a2, a3, a4, a5, a6, a7, a8, a9, a10, a11, a12, a13, a14, a15, a16, a17, a18, a19, a20, a21, a22) := by
  unfold wpX_top
  exact H
theorem mr_push {post : St2 → Prop} {fp fl fo fy fr fm fs fd fq fn fc fw : Int32} {a1 a2 a3 a4 a5 a6 a7 a8 a9 a10 a11 a12 a13 a14 a15 a16 a17 a18 a19 a20 a21 a22 : Nat → Int32} {p q : Int32} (hd : a14 0 = 0) (H : ∀ b14 b15 b16 : Nat → Int32, b14 0 = 1 → post (fp, fl, 1, fo, fy, fr, fm, fs, fd, fq, fn, fc, fw, a1, a2, a3, a4, a5, a6, a7, a8, a9, a10, a11, a12, a13, b14, b15, b16, a17, a18, a19, a20, a21, a22)) : wpX_push post (fp, fl, 1, fo, fy, fr, fm, fs, fd, fq, fn, fc, fw, a1, a2, a3, a4, a5, a6, a7, a8, a9, a10, a11, a12, a13, a14, a15, a16, a17, a18, a19, a20, a21, a22) p q := by
  have e : a14 ((1 : Int32) - 1).toNatClampNeg = 0 := hd
  unfold wpX_push wpX_top
  dsimp only
  rw [e]
  refine ⟨vp_in_iff.mpr (by decide), vp_in_iff.mpr (by decide), fun b15 _ => ⟨vp_in_iff.mpr (by decide), vp_in_iff.mpr (by decide), fun b16 _ => ⟨vp_in_iff.mpr (by decide), vp_in_iff.mpr (by decide), fun b14 h14 => H b14 b15 b16 ?_⟩⟩⟩
  rw [h14]
  exact pk_us
theorem mr_pushLocal {post : St2 → Prop} {fp fl fo fy fr fm fs fd fq fn fc fw : Int32} {a1 a2 a3 a4 a5 a6 a7 a8 a9 a10 a11 a12 a13 a14 a15 a16 a17 a18 a19 a20 a21 a22 : Nat → Int32} {j : Nat} (hj : j < 4) (hd : a14 0 = 0) (H : ∀ b14 b15 b16 : Nat → Int32, b14 0 = 1 → post (fp, fl, 1, fo, fy, fr, fm, fs, fd, fq, fn, fc, fw, a1, a2, a3, a4, a5, a6, a7, a8, a9, a10, a11, a12, a13, b14, b15, b16, a17, a18, a19, a20, a21, a22)) : wpX_pushLocal post (fp, fl, 1, fo, fy, fr, fm, fs, fd, fq, fn, fc, fw, a1, a2, a3, a4, a5, a6, a7, a8, a9, a10, a11, a12, a13, a14, a15, a16, a17, a18, a19, a20, a21, a22) (nI j) := by
  unfold wpX_pushLocal wpX_top
  refine nm_r (e' := nI j) ?_ ⟨pk_in j 40 (by omega), pk_in j 40 (by omega), mr_push hd H⟩
  rw [show (4 : Int32) * (1 - 1) = nI 0 by decide, nI_add, Nat.zero_add]
theorem mr_couple {post : Int32 → Prop} {fp fl ff fo fy fr fm fs fd fq fn fc fw : Int32} {a1 a2 a3 a4 a5 a6 a7 a8 a9 a10 a11 a12 a13 a14 a15 a16 a17 a18 a19 a20 a21 a22 : Nat → Int32} {x y : Int32} (h : x = 0 ∨ y = 0) (H : post 0) : wpX_coupleOf post (fp, fl, ff, fo, fy, fr, fm, fs, fd, fq, fn, fc, fw, a1, a2, a3, a4, a5, a6, a7, a8, a9, a10, a11, a12, a13, a14, a15, a16, a17, a18, a19, a20, a21, a22) x y := by
  have h40 : wX_coupleOf_40 post x y fp fl ff fo fy fr fm fs fd fq fn fc fw a1 a2 a3 a4 a5 a6 a7 a8 a9 a10 a11 a12 a13 a14 a15 a16 a17 a18 a19 a20 a21 a22 := by
    unfold wX_coupleOf_40
    exact br_c (fun e => br_c (fun g => absurd h (by rw [e, g]; decide)) (fun _ => H)) (fun _ => H)
  have h26 : wX_coupleOf_26 post x y fp fl ff fo fy fr fm fs fd fq fn fc fw a1 a2 a3 a4 a5 a6 a7 a8 a9 a10 a11 a12 a13 a14 a15 a16 a17 a18 a19 a20 a21 a22 := by
    unfold wX_coupleOf_26
    exact br_c (fun e => br_c (fun g => absurd h (by rw [e, g]; decide)) (fun _ => h40)) (fun _ => h40)
  have h13 : wX_coupleOf_13 post x y fp fl ff fo fy fr fm fs fd fq fn fc fw a1 a2 a3 a4 a5 a6 a7 a8 a9 a10 a11 a12 a13 a14 a15 a16 a17 a18 a19 a20 a21 a22 := by
    unfold wX_coupleOf_13
    exact br_c (fun e => br_c (fun g => absurd h (by rw [e, g]; decide)) (fun _ => h26)) (fun _ => h26)
  unfold wpX_coupleOf
  exact br_c (fun e => br_c (fun g => absurd h (by rw [e, g]; decide)) (fun _ => h13)) (fun _ => h13)
theorem mr_prep95 {post : St2 → Prop} {fl ff fo fy fr fm fs fd fq fn fc fw : Int32} {a1 a2 a3 a4 a5 a6 a7 a8 a9 a10 a11 a12 a13 a14 a15 a16 a17 a18 a19 a20 a21 a22 : Nat → Int32} (hc : ∀ j, j < 59 → a1 j = 0 ∨ a1 (j + 1) = 0) (H : ∀ b6 b7 : Nat → Int32, (∀ j, j < 60 → b6 j = 0) → post (1, fl, ff, fo, fy, fr, fm, fs, fd, fq, fn, fc, fw, a1, a2, a3, a4, a5, b6, b7, a8, a9, a10, a11, a12, a13, a14, a15, a16, a17, a18, a19, a20, a21, a22)) : ∃ n, wX_prepare_95 post 1 fl ff fo fy fr fm fs fd fq fn fc fw n 0 a1 a2 a3 a4 a5 a6 a7 a8 a9 a10 a11 a12 a13 a14 a15 a16 a17 a18 a19 a20 a21 a22 :=
  pk_loop (fun n i s => wX_prepare_95 post 1 fl ff fo fy fr fm fs fd fq fn fc fw n (nI i) a1 a2 a3 a4 a5 s.1 s.2 a8 a9 a10 a11 a12 a13 a14 a15 a16 a17 a18 a19 a20 a21 a22) (fun i s => ∀ j, j < i → s.1 j = 0) 60 0 (a6, a7) (by omega) (fun j hj => absurd hj (by omega))
    (fun n s h => pk_le 60 60 (fun _ => H s.1 s.2 h) (fun z => absurd z (by omega)))
    (fun n i s hi h hw => pk_le 60 i (fun z => absurd z (by omega)) (fun _ => ⟨pk_in i 60 hi, fun b7 _ => pk_le 59 i
      (fun _ => ⟨pk_in i 60 hi, fun b6 e6 => nm_r (nI_1 i) (hw (b6, b7) (mr_fill (by omega) h e6 (by decide)))⟩)
      (fun z => ⟨pk_in i 60 hi, pk_in (i + 1) 60 (by omega) (nI_1 i), mr_couple (by rw [nI_1, nI_clamp (by omega), nI_clamp (by omega)]; exact hc i z) ⟨pk_in i 60 hi, fun b6 e6 => nm_r (nI_1 i) (hw (b6, b7) (mr_fill (by omega) h e6 (by decide)))⟩⟩)⟩))
theorem mr_prep15 {post : St2 → Prop} {fl ff fo fy fr fm fs fd fq fn fc fw : Int32} {a1 a2 a3 a4 a5 a6 a7 a8 a9 a10 a11 a12 a13 a14 a15 a16 a17 a18 a19 a20 a21 a22 : Nat → Int32} (h3 : ∀ j, j < 4 → a3 j = -1) (hc : ∀ j, j < 59 → a1 j = 0 ∨ a1 (j + 1) = 0) (H : ∀ b5 b6 b7 : Nat → Int32, (∀ j, j < 60 → b6 j = 0) → post (1, fl, ff, fo, fy, fr, fm, fs, fd, fq, fn, fc, fw, a1, a2, a3, a4, b5, b6, b7, a8, a9, a10, a11, a12, a13, a14, a15, a16, a17, a18, a19, a20, a21, a22)) : ∃ n, wX_prepare_15 post 1 fl ff fo fy fr fm fs fd fq fn fc fw n 0 a1 a2 a3 a4 a5 a6 a7 a8 a9 a10 a11 a12 a13 a14 a15 a16 a17 a18 a19 a20 a21 a22 :=
  pk_loop (fun n i s => wX_prepare_15 post 1 fl ff fo fy fr fm fs fd fq fn fc fw n (nI i) a1 a2 a3 a4 s a6 a7 a8 a9 a10 a11 a12 a13 a14 a15 a16 a17 a18 a19 a20 a21 a22) (fun _ _ => True) 4 0 a5 (by omega) trivial
    (fun n s _ => pk_le 4 4 (fun _ => mr_prep95 hc (fun b6 b7 h => H s b6 b7 h)) (fun z => absurd z (by omega)))
    (fun n i s hi _ hw => pk_le 4 i (fun z => absurd z (by omega)) (fun _ =>
      pk_loop (fun m k t => wX_prepare_22 post (wX_prepare_15 post 1 fl ff fo fy fr fm fs fd fq fn fc fw n) (nI i) 1 fl ff fo fy fr fm fs fd fq fn fc fw m (nI k) a1 a2 a3 a4 t a6 a7 a8 a9 a10 a11 a12 a13 a14 a15 a16 a17 a18 a19 a20 a21 a22) (fun _ _ => True) 4 0 s (by omega) trivial
        (fun m t _ => pk_le 4 4 (fun _ => nm_r (nI_1 i) (hw t trivial)) (fun z => absurd z (by omega)))
        (fun m k t hk _ hw' => pk_le 4 k (fun z => absurd z (by omega)) (fun _ => ⟨mr_in16 hi hk, fun x _ => br_c
          (fun _ => ⟨mr_in16 hi hk, fun b5 _ => nm_r (nI_1 k) (hw' b5 trivial)⟩)
          (fun _ => ⟨pk_in i 4 hi, br_t (by rw [nI_clamp (by omega), h3 i hi]; decide) ⟨mr_in16 hi hk, fun b5 _ => nm_r (nI_1 k) (hw' b5 trivial)⟩⟩)⟩))))
theorem mr_prepare {post : St2 → Prop} {fl ff fo fy fr fm fs fd fq fn fc fw : Int32} {a1 a2 a3 a4 a5 a6 a7 a8 a9 a10 a11 a12 a13 a14 a15 a16 a17 a18 a19 a20 a21 a22 : Nat → Int32} (h3 : ∀ j, j < 4 → a3 j = -1) (hc : ∀ j, j < 59 → a1 j = 0 ∨ a1 (j + 1) = 0) (H : ∀ b5 b6 b7 : Nat → Int32, (∀ j, j < 60 → b6 j = 0) → post (1, fl, ff, fo, fy, fr, fm, fs, fd, fq, fn, fc, fw, a1, a2, a3, a4, b5, b6, b7, a8, a9, a10, a11, a12, a13, a14, a15, a16, a17, a18, a19, a20, a21, a22)) : wpX_prepare post (0, fl, ff, fo, fy, fr, fm, fs, fd, fq, fn, fc, fw, a1, a2, a3, a4, a5, a6, a7, a8, a9, a10, a11, a12, a13, a14, a15, a16, a17, a18, a19, a20, a21, a22) := by
  unfold wpX_prepare
  exact br_t rfl (mr_prep15 h3 hc H)
theorem mr_open {post : St2 → Prop} {fp fl fo fy fr fm fs fd fq fn fc fw : Int32} {a1 a2 a3 a4 a5 a6 a7 a8 a9 a10 a11 a12 a13 a14 a15 a16 a17 a18 a19 a20 a21 a22 : Nat → Int32} {p : Int32} (H : ∀ b11 b12 b13 b14 : Nat → Int32, b11 0 = p → b14 0 = 0 → post (fp, fl, 1, fo, fy, fr, fm, fs, fd, fq, fn, fc, fw, a1, a2, a3, a4, a5, a6, a7, a8, a9, a10, b11, b12, b13, b14, a15, a16, a17, a18, a19, a20, a21, a22)) : wpX_openFrame post (fp, fl, 0, fo, fy, fr, fm, fs, fd, fq, fn, fc, fw, a1, a2, a3, a4, a5, a6, a7, a8, a9, a10, a11, a12, a13, a14, a15, a16, a17, a18, a19, a20, a21, a22) p := by
  unfold wpX_openFrame
  refine ⟨vp_in_iff.mpr (by decide), fun b11 h11 => ⟨vp_in_iff.mpr (by decide), fun b14 h14 => nm_r (e' := nI 0) (by decide) ?_⟩⟩
  have e11 : b11 0 = p := by
    rw [h11]
    exact pk_us
  have e14 : b14 0 = 0 := by
    rw [h14]
    exact pk_us
  exact pk_loop (fun n i s => wX_openFrame_27 post fp fl 0 fo fy fr fm fs fd fq fn fc fw n (nI i) a1 a2 a3 a4 a5 a6 a7 a8 a9 a10 b11 s.1 s.2 b14 a15 a16 a17 a18 a19 a20 a21 a22) (fun _ _ => True) 4 0 (a12, a13) (by omega) trivial
    (fun n s _ => pk_le 4 4 (fun _ => nm_r (e' := 1) (by decide) (H b11 s.1 s.2 b14 e11 e14)) (fun z => absurd z (by omega)) (by decide))
    (fun n i s hi _ hw => pk_le 4 i (fun z => absurd z (by omega)) (fun _ => ⟨pk_in i 40 (by omega), fun b12 _ => ⟨pk_in i 40 (by omega), fun b13 _ => nm_r (nI_1 i) (hw (b12, b13) trivial)⟩⟩) (by decide))
theorem mr_setLocal {post : St2 → Prop} {fp fl fo fy fr fm fs fd fq fn fc fw : Int32} {a1 a2 a3 a4 a5 a6 a7 a8 a9 a10 a11 a12 a13 a14 a15 a16 a17 a18 a19 a20 a21 a22 : Nat → Int32} {v : Int32} (H : ∀ b12 b13 : Nat → Int32, post (fp, fl, 1, fo, fy, fr, fm, fs, fd, fq, fn, fc, fw, a1, a2, a3, a4, a5, a6, a7, a8, a9, a10, a11, b12, b13, a14, a15, a16, a17, a18, a19, a20, a21, a22)) : wpX_setLocal post (fp, fl, 1, fo, fy, fr, fm, fs, fd, fq, fn, fc, fw, a1, a2, a3, a4, a5, a6, a7, a8, a9, a10, a11, a12, a13, a14, a15, a16, a17, a18, a19, a20, a21, a22) 1 1 v := by
  unfold wpX_setLocal wpX_top
  exact nm_r (e' := 1) (by decide) ⟨vp_in_iff.mpr (by decide), fun b12 _ => ⟨vp_in_iff.mpr (by decide), fun b13 _ => H b12 b13⟩⟩
def mr_tk18 (o : Int32) : Int32 := if o = 17 then 2 else if o = 19 then 2 else if o = 4 then 1 else if o = 5 then 1 else if o = 6 then 1 else if o = 14 then 1 else if o = 16 then 1 else if o = 18 then 1 else if o = 20 then 1 else if o = 22 then 1 else if o = 23 then 1 else 0
def mr_tk (o : Int32) : Int32 := if o = 7 then 2 else if o < 8 then mr_tk18 o else if o ≤ 12 then 2 else mr_tk18 o
theorem mr_taken18 {post : Int32 → Prop} {fp fl ff fo fy fr fm fs fd fq fn fc fw : Int32} {a1 a2 a3 a4 a5 a6 a7 a8 a9 a10 a11 a12 a13 a14 a15 a16 a17 a18 a19 a20 a21 a22 : Nat → Int32} {o : Int32} (H : post (mr_tk18 o)) : wX_takenBy_18 post o fp fl ff fo fy fr fm fs fd fq fn fc fw a1 a2 a3 a4 a5 a6 a7 a8 a9 a10 a11 a12 a13 a14 a15 a16 a17 a18 a19 a20 a21 a22 := by
  unfold wX_takenBy_18
  unfold mr_tk18 at H
  exact mr_ite H id (fun H => mr_ite H id (fun H => mr_ite H id (fun H => mr_ite H id (fun H => mr_ite H id (fun H => mr_ite H id (fun H => mr_ite H id (fun H => mr_ite H id (fun H => mr_ite H id (fun H => mr_ite H id (fun H => mr_ite H id id))))))))))
theorem mr_taken {post : Int32 → Prop} {fp fl ff fo fy fr fm fs fd fq fn fc fw : Int32} {a1 a2 a3 a4 a5 a6 a7 a8 a9 a10 a11 a12 a13 a14 a15 a16 a17 a18 a19 a20 a21 a22 : Nat → Int32} {o : Int32} (H : post (mr_tk o)) : wpX_takenBy post (fp, fl, ff, fo, fy, fr, fm, fs, fd, fq, fn, fc, fw, a1, a2, a3, a4, a5, a6, a7, a8, a9, a10, a11, a12, a13, a14, a15, a16, a17, a18, a19, a20, a21, a22) o := by
  unfold wpX_takenBy
  unfold mr_tk at H
  exact mr_ite H id (fun H => mr_ite H mr_taken18 (fun H => mr_ite H id mr_taken18))
theorem mr_put {post : Int32 → Prop} {fp fl ff fo fy fr fm fs fd fq fn fc fw : Int32} {a1 a2 a3 a4 a5 a6 a7 a8 a9 a10 a11 a12 a13 a14 a15 a16 a17 a18 a19 a20 a21 a22 : Nat → Int32} {o : Int32} (H : ∀ r, r = 0 ∨ r = 1 ∨ r = 2 → post r) : wpX_putBy post (fp, fl, ff, fo, fy, fr, fm, fs, fd, fq, fn, fc, fw, a1, a2, a3, a4, a5, a6, a7, a8, a9, a10, a11, a12, a13, a14, a15, a16, a17, a18, a19, a20, a21, a22) o := by
  have p0 : post 0 := H 0 (Or.inl rfl)
  have p1 : post 1 := H 1 (Or.inr (Or.inl rfl))
  have p2 : post 2 := H 2 (Or.inr (Or.inr rfl))
  have h43 : wX_putBy_43 post o fp fl ff fo fy fr fm fs fd fq fn fc fw a1 a2 a3 a4 a5 a6 a7 a8 a9 a10 a11 a12 a13 a14 a15 a16 a17 a18 a19 a20 a21 a22 := by
    unfold wX_putBy_43
    exact br_c (fun _ => p1) (fun _ => br_c (fun _ => p1) (fun _ => br_c (fun _ => p1) (fun _ => br_c (fun _ => p1) (fun _ => p0))))
  unfold wpX_putBy
  exact br_c (fun _ => p2) (fun _ => br_c (fun _ => p2) (fun _ => br_c (fun _ => p1) (fun _ => br_c (fun _ => p1) (fun _ => br_c (fun _ => p1) (fun _ => br_c (fun _ => h43) (fun _ => br_c (fun _ => h43) (fun _ => p1)))))))
end
section
/-! one instruction -/
theorem mr_69 {post : Int32 → St2 → Prop} {fp fl ff fo fy fr fm fs fd fq fn fc fw : Int32} {a1 a2 a3 a4 a5 a6 a7 a8 a9 a10 a11 a12 a13 a14 a15 a16 a17 a18 a19 a20 a21 a22 : Nat → Int32} {k : Nat} {o : Int32} (hk : k < 60) (ho : a1 k = o) (ht : mr_tk o = 0) (hd : a14 0 = 0 ∨ a14 0 = 1)
    (H : ∀ ψ : Int32 → St2 → Prop, (∀ (fp' fl' ff' fo' fy' fr' fm' fs' fd' fq' fn' fc' fw' : Int32) (a1' a2' a3' a4' a5' a6' a7' a8' a9' a10' a11' a12' a13' a14' a15' a16' a17' a18' a19' a20' a21' a22' : Nat → Int32), post (-1) (fp', fl', ff', fo', fy', fr', fm', (fs' + 1), fd', fq', fn', fc', fw', a1', a2', a3', a4', a5', a6', a7', a8', a9', a10', a11', a12', a13', a14', a15', a16', a17', a18', a19', a20', a21', a22') → ψ (-1) (fp', fl', ff', fo', fy', fr', fm', fs', fd', fq', fn', fc', fw', a1', a2', a3', a4', a5', a6', a7', a8', a9', a10', a11', a12', a13', a14', a15', a16', a17', a18', a19', a20', a21', a22')) → (∀ (fp' fl' ff' fo' fy' fr' fm' fs' fd' fq' fn' fc' fw' : Int32) (a1' a2' a3' a4' a5' a6' a7' a8' a9' a10' a11' a12' a13' a14' a15' a16' a17' a18' a19' a20' a21' a22' : Nat → Int32), post 0 (fp', fl', ff', fo', fy', fr', fm', (fs' + 1), fd', fq', fn', fc', fw', a1', a2', a3', a4', a5', a6', a7', a8', a9', a10', a11', a12', a13', a14', a15', a16', a17', a18', a19', a20', a21', a22') → ψ 0 (fp', fl', ff', fo', fy', fr', fm', fs', fd', fq', fn', fc', fw', a1', a2', a3', a4', a5', a6', a7', a8', a9', a10', a11', a12', a13', a14', a15', a16', a17', a18', a19', a20', a21', a22')) → wpX_workOne ψ (fp, fl, ff, fo, fy, fr, fm, fs, fd, fq, fn, fc, fw, a1, a2, a3, a4, a5, a6, a7, a8, a9, a10, a11, a12, a13, a14, a15, a16, a17, a18, a19, a20, a21, a22) (nI k) o (a2 k)) : wX_work_69 post 0 (nI k) fp fl ff fo fy fr fm fs fd fq fn fc fw a1 a2 a3 a4 a5 a6 a7 a8 a9 a10 a11 a12 a13 a14 a15 a16 a17 a18 a19 a20 a21 a22 := by
  unfold wX_work_69
  refine ⟨pk_in k 60 hk, nm_r (e' := o) (by rw [nI_clamp (by omega)]; exact ho) (mr_taken ?_)⟩
  rw [ht]
  have g0 : ¬ a14 (0 : Int32).toNatClampNeg < 0 := by
    show ¬ a14 0 < 0
    rcases hd with e | e
    · rw [e]
      decide
    · rw [e]
      decide
  refine ⟨vp_in_iff.mpr (by decide), br_f g0 ⟨vp_in_iff.mpr (by decide), mr_put (fun r hr => br_t ?_ ⟨pk_in k 60 hk, ?_⟩)⟩⟩
  · show a14 0 - 0 + r ≤ 6
    rcases hd with e | e
    · rcases hr with g | g | g
      · rw [e, g]
        decide
      · rw [e, g]
        decide
      · rw [e, g]
        decide
    · rcases hr with g | g | g
      · rw [e, g]
        decide
      · rw [e, g]
        decide
      · rw [e, g]
        decide
  · rw [nI_clamp (show k < 2 ^ 31 by omega)]
    refine H _ ?_ ?_
    · intro _ _ _ _ _ _ _ _ _ _ _ _ _ _ _ _ _ _ _ _ _ _ _ _ _ _ _ _ _ _ _ _ _ _ _ h
      exact br_t rfl (nm_e h)
    · intro _ _ _ _ _ _ _ _ _ _ _ _ _ _ _ _ _ _ _ _ _ _ _ _ _ _ _ _ _ _ _ _ _ _ _ h
      exact br_f (by decide) (br_t rfl (nm_e h))
theorem mr_work {post : Int32 → St2 → Prop} {fp fo fy fr fm fs fd fq fn fc fw : Int32} {a1 a2 a3 a4 a5 a6 a7 a8 a9 a10 a11 a12 a13 a14 a15 a16 a17 a18 a19 a20 a21 a22 : Nat → Int32} {k : Nat} (hk : k < 60) (hp : a11 0 = nI k) (h6 : a6 k = 0) (hs : ¬ fs = 300) (H : wX_work_69 post 0 (nI k) fp 2 1 fo fy fr fm fs fd fq fn fc fw a1 a2 a3 a4 a5 a6 a7 a8 a9 a10 a11 a12 a13 a14 a15 a16 a17 a18 a19 a20 a21 a22) : wpX_work post (fp, 2, 1, fo, fy, fr, fm, fs, fd, fq, fn, fc, fw, a1, a2, a3, a4, a5, a6, a7, a8, a9, a10, a11, a12, a13, a14, a15, a16, a17, a18, a19, a20, a21, a22) := by
  unfold wpX_work wpX_top
  exact ⟨vp_in_iff.mpr (by decide), nm_r (e' := nI k) hp (br_f (nI_pos (by omega)) (pk_le k 59 (fun _ => br_f hs (br_t rfl ⟨pk_in k 60 hk, br_t (by rw [nI_clamp (by omega)]; exact h6) H⟩)) (fun z => absurd z (by omega))))⟩
theorem mr_workOut {post : Int32 → St2 → Prop} {fp fo fy fr fm fs fd fq fn fc fw : Int32} {a1 a2 a3 a4 a5 a6 a7 a8 a9 a10 a11 a12 a13 a14 a15 a16 a17 a18 a19 a20 a21 a22 : Nat → Int32} {p : Int32} (hp : a11 0 = p) (h : p < 0 ∨ ¬ p ≤ 59) (H : post 1 (fp, 2, 1, fo, fy, fr, fm, fs, fd, fq, fn, fc, fw, a1, a2, a3, a4, a5, a6, a7, a8, a9, a10, a11, a12, a13, a14, a15, a16, a17, a18, a19, a20, a21, a22)) : wpX_work post (fp, 2, 1, fo, fy, fr, fm, fs, fd, fq, fn, fc, fw, a1, a2, a3, a4, a5, a6, a7, a8, a9, a10, a11, a12, a13, a14, a15, a16, a17, a18, a19, a20, a21, a22) := by
  unfold wpX_work wpX_top
  refine ⟨vp_in_iff.mpr (by decide), nm_r (e' := p) hp ?_⟩
  by_cases e : p < 0
  · exact br_t e H
  · exact br_f e (br_f (h.resolve_left e) H)
theorem mr_workTired {post : Int32 → St2 → Prop} {fp fo fy fr fm fd fq fn fc fw : Int32} {a1 a2 a3 a4 a5 a6 a7 a8 a9 a10 a11 a12 a13 a14 a15 a16 a17 a18 a19 a20 a21 a22 : Nat → Int32} {k : Nat} (hk : k < 60) (hp : a11 0 = nI k) (H : post 2 (fp, 2, 1, fo, fy, fr, fm, 300, fd, fq, fn, fc, fw, a1, a2, a3, a4, a5, a6, a7, a8, a9, a10, a11, a12, a13, a14, a15, a16, a17, a18, a19, a20, a21, a22)) : wpX_work post (fp, 2, 1, fo, fy, fr, fm, 300, fd, fq, fn, fc, fw, a1, a2, a3, a4, a5, a6, a7, a8, a9, a10, a11, a12, a13, a14, a15, a16, a17, a18, a19, a20, a21, a22) := by
  unfold wpX_work wpX_top
  exact ⟨vp_in_iff.mpr (by decide), nm_r (e' := nI k) hp (br_f (nI_pos (by omega)) (pk_le k 59 (fun _ => br_t rfl H) (fun z => absurd z (by omega))))⟩
theorem mr_workStack {post : Int32 → St2 → Prop} {fp fo fy fr fm fs fd fq fn fc fw : Int32} {a1 a2 a3 a4 a5 a6 a7 a8 a9 a10 a11 a12 a13 a14 a15 a16 a17 a18 a19 a20 a21 a22 : Nat → Int32} {k : Nat} {o : Int32} (hk : k < 60) (hp : a11 0 = nI k) (h6 : a6 k = 0) (hs : ¬ fs = 300) (ho : a1 k = o) (ht : 0 < mr_tk o) (hd : a14 0 = 0) (H : post 3 (fp, 2, 1, fo, fy, fr, fm, fs, fd, fq, fn, fc, fw, a1, a2, a3, a4, a5, a6, a7, a8, a9, a10, a11, a12, a13, a14, a15, a16, a17, a18, a19, a20, a21, a22)) : wpX_work post (fp, 2, 1, fo, fy, fr, fm, fs, fd, fq, fn, fc, fw, a1, a2, a3, a4, a5, a6, a7, a8, a9, a10, a11, a12, a13, a14, a15, a16, a17, a18, a19, a20, a21, a22) := by
  refine mr_work hk hp h6 hs ?_
  unfold wX_work_69
  refine ⟨pk_in k 60 hk, nm_r (e' := o) (by rw [nI_clamp (by omega)]; exact ho) (mr_taken ⟨vp_in_iff.mpr (by decide), br_t ?_ H⟩)⟩
  show a14 0 < mr_tk o
  rw [hd]
  exact ht
theorem mr_one0 {ψ : Int32 → St2 → Prop} {fp fl ff fo fy fr fm fs fd fq fn fc fw : Int32} {a1 a2 a3 a4 a5 a6 a7 a8 a9 a10 a11 a12 a13 a14 a15 a16 a17 a18 a19 a20 a21 a22 : Nat → Int32} {i n : Int32} (H : ψ 0 (fp, fl, ff, fo, fy, fr, fm, fs, fd, fq, fn, fc, fw, a1, a2, a3, a4, a5, a6, a7, a8, a9, a10, a11, a12, a13, a14, a15, a16, a17, a18, a19, a20, a21, a22)) : wpX_workOne ψ (fp, fl, ff, fo, fy, fr, fm, fs, fd, fq, fn, fc, fw, a1, a2, a3, a4, a5, a6, a7, a8, a9, a10, a11, a12, a13, a14, a15, a16, a17, a18, a19, a20, a21, a22) i 0 n := by
  unfold wpX_workOne
  exact br_f (by decide) (br_f (by decide) (br_f (by decide) (br_f (by decide) (br_f (by decide) (br_t rfl H)))))
theorem mr_to79 {ψ : Int32 → St2 → Prop} {fp fl ff fo fy fr fm fs fd fq fn fc fw : Int32} {a1 a2 a3 a4 a5 a6 a7 a8 a9 a10 a11 a12 a13 a14 a15 a16 a17 a18 a19 a20 a21 a22 : Nat → Int32} {i o n : Int32} (ho : (o = 1 ∨ o = 2 ∨ o = 3 ∨ o = 21) ∨ o = 13) (H : wX_workOne_79 ψ i o n fp fl ff fo fy fr fm fs fd fq fn fc fw a1 a2 a3 a4 a5 a6 a7 a8 a9 a10 a11 a12 a13 a14 a15 a16 a17 a18 a19 a20 a21 a22) : wpX_workOne ψ (fp, fl, ff, fo, fy, fr, fm, fs, fd, fq, fn, fc, fw, a1, a2, a3, a4, a5, a6, a7, a8, a9, a10, a11, a12, a13, a14, a15, a16, a17, a18, a19, a20, a21, a22) i o n := by
  unfold wpX_workOne
  rcases ho with (rfl | rfl | rfl | rfl) | rfl
  · exact br_f (by decide) (br_f (by decide) (br_f (by decide) (br_f (by decide) (br_f (by decide) (br_f (by decide) (br_t (by decide) H))))))
  · exact br_f (by decide) (br_f (by decide) (br_f (by decide) (br_f (by decide) (br_f (by decide) (br_f (by decide) (br_t (by decide) H))))))
  · exact br_f (by decide) (br_f (by decide) (br_f (by decide) (br_f (by decide) (br_f (by decide) (br_f (by decide) (br_t (by decide) H))))))
  · exact br_f (by decide) (br_f (by decide) (br_f (by decide) (br_f (by decide) (br_f (by decide) (br_f (by decide) (br_f (by decide) (br_t (by decide) H)))))))
  · exact br_f (by decide) (br_f (by decide) (br_f (by decide) (br_f (by decide) (br_f (by decide) (br_f (by decide) (br_f (by decide) (br_t (by decide) H)))))))
theorem mr_move13 {post : St2 → Prop} {fp fl ff fo fy fr fm fs fd fq fn fc fw : Int32} {a1 a2 a3 a4 a5 a6 a7 a8 a9 a10 a11 a12 a13 a14 a15 a16 a17 a18 a19 a20 a21 a22 : Nat → Int32} {n : Int32} (H : post (fp, fl, ff, fo, fy, fr, fm, fs, fd, fq, fn, fc, fw, a1, a2, a3, a4, a5, a6, a7, a8, a9, a10, a11, a12, a13, a14, a15, a16, a17, a18, a19, a20, a21, a22)) : wpX_moveValues post (fp, fl, ff, fo, fy, fr, fm, fs, fd, fq, fn, fc, fw, a1, a2, a3, a4, a5, a6, a7, a8, a9, a10, a11, a12, a13, a14, a15, a16, a17, a18, a19, a20, a21, a22) 13 n := by
  unfold wpX_moveValues
  exact br_f (by decide) (br_f (by decide) (br_f (by decide) (br_f (by decide) (br_f (by decide) (br_f (by decide) (br_f (by decide) (br_f (by decide) (br_f (by decide) (br_f (by decide) (br_f (by decide) H))))))))))
theorem mr_move {post : St2 → Prop} {fp fl fo fy fr fm fs fd fq fn fc fw : Int32} {a1 a2 a3 a4 a5 a6 a7 a8 a9 a10 a11 a12 a13 a14 a15 a16 a17 a18 a19 a20 a21 a22 : Nat → Int32} {o n : Int32} (ho : o = 1 ∨ o = 2 ∨ o = 3 ∨ o = 21) (hn : o = 3 ∨ o = 21 → ∃ j : Nat, j < 4 ∧ n = nI j) (hd : a14 0 = 0) (H : ∀ b14 b15 b16 : Nat → Int32, b14 0 = 1 → post (fp, fl, 1, fo, fy, fr, fm, fs, fd, fq, fn, fc, fw, a1, a2, a3, a4, a5, a6, a7, a8, a9, a10, a11, a12, a13, b14, b15, b16, a17, a18, a19, a20, a21, a22)) : wpX_moveValues post (fp, fl, 1, fo, fy, fr, fm, fs, fd, fq, fn, fc, fw, a1, a2, a3, a4, a5, a6, a7, a8, a9, a10, a11, a12, a13, a14, a15, a16, a17, a18, a19, a20, a21, a22) o n := by
  unfold wpX_moveValues
  rcases ho with rfl | rfl | rfl | rfl
  · exact br_t rfl (mr_push hd H)
  · exact br_f (by decide) (br_t rfl (mr_push hd H))
  · obtain ⟨j, hj, e⟩ := hn (Or.inl rfl)
    subst e
    exact br_f (by decide) (br_f (by decide) (br_t rfl (mr_pushLocal hj hd H)))
  · obtain ⟨j, hj, e⟩ := hn (Or.inr rfl)
    subst e
    exact br_f (by decide) (br_f (by decide) (br_f (by decide) (br_t rfl ⟨pk_in j 4 hj, pk_in j 4 hj, mr_push hd H⟩)))
theorem mr_one13 {ψ : Int32 → St2 → Prop} {fp fl fo fy fr fm fs fd fq fn fc fw : Int32} {a1 a2 a3 a4 a5 a6 a7 a8 a9 a10 a11 a12 a13 a14 a15 a16 a17 a18 a19 a20 a21 a22 : Nat → Int32} {i n : Int32} (H : ∀ b11 : Nat → Int32, b11 0 = n → ψ (-1) (fp, fl, 1, fo, fy, fr, fm, fs, fd, fq, fn, fc, fw, a1, a2, a3, a4, a5, a6, a7, a8, a9, a10, b11, a12, a13, a14, a15, a16, a17, a18, a19, a20, a21, a22)) : wpX_workOne ψ (fp, fl, 1, fo, fy, fr, fm, fs, fd, fq, fn, fc, fw, a1, a2, a3, a4, a5, a6, a7, a8, a9, a10, a11, a12, a13, a14, a15, a16, a17, a18, a19, a20, a21, a22) i 13 n := by
  refine mr_to79 (Or.inr rfl) ?_
  unfold wX_workOne_79 wpX_top wX_workOne_176
  refine br_f (by decide) (br_f (by decide) (br_t rfl ⟨vp_in_iff.mpr (by decide), fun b11 h11 => mr_move13 (H b11 ?_)⟩))
  rw [h11]
  exact pk_us
theorem mr_oneB {ψ : Int32 → St2 → Prop} {fp fl fo fy fr fm fs fd fq fn fc fw : Int32} {a1 a2 a3 a4 a5 a6 a7 a8 a9 a10 a11 a12 a13 a14 a15 a16 a17 a18 a19 a20 a21 a22 : Nat → Int32} {i o n : Int32} (ho : o = 1 ∨ o = 2 ∨ o = 3 ∨ o = 21) (hn : o = 3 ∨ o = 21 → ∃ j : Nat, j < 4 ∧ n = nI j) (hd : a14 0 = 0) (H : ∀ b11 b14 b15 b16 : Nat → Int32, b11 0 = i + 1 → b14 0 = 1 → ψ (-1) (fp, fl, 1, fo, fy, fr, fm, fs, fd, fq, fn, fc, fw, a1, a2, a3, a4, a5, a6, a7, a8, a9, a10, b11, a12, a13, b14, b15, b16, a17, a18, a19, a20, a21, a22)) : wpX_workOne ψ (fp, fl, 1, fo, fy, fr, fm, fs, fd, fq, fn, fc, fw, a1, a2, a3, a4, a5, a6, a7, a8, a9, a10, a11, a12, a13, a14, a15, a16, a17, a18, a19, a20, a21, a22) i o n := by
  have n14 : ¬ o = 14 := by
    rcases ho with e | e | e | e <;> rw [e] <;> decide
  have n23 : ¬ o = 23 := by
    rcases ho with e | e | e | e <;> rw [e] <;> decide
  have n13 : ¬ o = 13 := by
    rcases ho with e | e | e | e <;> rw [e] <;> decide
  refine mr_to79 (Or.inl ho) ?_
  unfold wX_workOne_79 wpX_top wX_workOne_176
  refine br_f n14 (br_f n23 (br_f n13 ⟨vp_in_iff.mpr (by decide), fun b11 h11 => mr_move ho hn hd (fun b14 b15 b16 h14 => H b11 b14 b15 b16 ?_ h14)⟩))
  rw [h11]
  exact pk_us
theorem mr_make {ψ : Int32 → St2 → Prop} {fp fl fr fm fs fd fq fn fc fw : Int32} {a1 a2 a3 a4 a5 a6 a7 a8 a9 a10 a11 a12 a13 a14 a15 a16 a17 a18 a19 a20 a21 a22 : Nat → Int32} {c : Int32} (hd : a14 0 = 0) (H : ∀ b11 b14 b15 b16 b17 b18 b19 : Nat → Int32, b11 0 = a11 0 + 1 → b14 0 = 1 → ψ (-1) (fp, fl, 1, 0, 1, fr, fm, fs, (fd + 1), fq, fn, fc, fw, a1, a2, a3, a4, a5, a6, a7, a8, a9, a10, b11, a12, a13, b14, b15, b16, b17, b18, b19, a20, a21, a22)) : wpX_makeObject ψ (fp, fl, 1, 0, 0, fr, fm, fs, fd, fq, fn, fc, fw, a1, a2, a3, a4, a5, a6, a7, a8, a9, a10, a11, a12, a13, a14, a15, a16, a17, a18, a19, a20, a21, a22) c := by
  have h56 : wX_makeObject_56 ψ c fp fl 1 0 0 fr fm fs fd fq fn fc fw a1 a2 a3 a4 a5 a6 a7 a8 a9 a10 a11 a12 a13 a14 a15 a16 a17 a18 a19 a20 a21 a22 := by
    unfold wX_makeObject_56
    refine nm_r (e' := nI 24) (by decide) (nm_r (e' := 1) (by decide) (nm_e ⟨pk_in 24 32 (by omega), fun b17 _ => nm_r (e' := nI 72) (by decide) ?_⟩))
    refine pk_loop (fun n i s => wX_makeObject_96 ψ (nI 24) fp fl 1 0 1 fr fm fs (fd + 1) fq fn fc fw n (nI i) a1 a2 a3 a4 a5 a6 a7 a8 a9 a10 a11 a12 a13 a14 a15 a16 b17 s.1 s.2 a20 a21 a22) (fun _ _ => True) 75 72 (a18, a19) (by omega) trivial ?_ ?_
    · intro n s _
      refine pk_le 75 75 (fun _ => mr_push hd (fun b14 b15 b16 h14 => ?_)) (fun z => absurd z (by omega)) (by decide)
      refine mr_top ⟨vp_in_iff.mpr (by decide), vp_in_iff.mpr (by decide), fun b11 h11 => H b11 b14 b15 b16 b17 s.1 s.2 ?_ h14⟩
      rw [h11]
      exact pk_us
    · intro n i s hi _ hw
      exact pk_le 75 i (fun z => absurd z (by omega)) (fun _ => ⟨pk_in i 96 (by omega), fun b18 _ => ⟨pk_in i 96 (by omega), fun b19 _ => nm_r (nI_1 i) (hw (b18, b19) trivial)⟩⟩) (by decide)
  unfold wpX_makeObject wX_makeObject_29
  exact br_t (by decide) (br_f (by decide) h56)
theorem mr_one15 {ψ : Int32 → St2 → Prop} {fp fl fr fm fs fd fq fn fc fw : Int32} {a1 a2 a3 a4 a5 a6 a7 a8 a9 a10 a11 a12 a13 a14 a15 a16 a17 a18 a19 a20 a21 a22 : Nat → Int32} {i n : Int32} (hd : a14 0 = 0) (H : ∀ b11 b14 b15 b16 b17 b18 b19 : Nat → Int32, b11 0 = a11 0 + 1 → b14 0 = 1 → ψ (-1) (fp, fl, 1, 0, 1, fr, fm, fs, (fd + 1), fq, fn, fc, fw, a1, a2, a3, a4, a5, a6, a7, a8, a9, a10, b11, a12, a13, b14, b15, b16, b17, b18, b19, a20, a21, a22)) : wpX_workOne ψ (fp, fl, 1, 0, 0, fr, fm, fs, fd, fq, fn, fc, fw, a1, a2, a3, a4, a5, a6, a7, a8, a9, a10, a11, a12, a13, a14, a15, a16, a17, a18, a19, a20, a21, a22) i 15 n := by
  unfold wpX_workOne
  exact br_t rfl (mr_make hd H)
theorem mr_workStop {post : Int32 → St2 → Prop} {fp fo fy fr fm fs fd fq fn fc fw : Int32} {a1 a2 a3 a4 a5 a6 a7 a8 a9 a10 a11 a12 a13 a14 a15 a16 a17 a18 a19 a20 a21 a22 : Nat → Int32} {k : Nat} (hk : k < 60) (hp : a11 0 = nI k) (h6 : a6 k = 0) (hs : ¬ fs = 300) (ho : a1 k = 0) (hd : a14 0 = 0 ∨ a14 0 = 1) (H : post 0 (fp, 2, 1, fo, fy, fr, fm, (fs + 1), fd, fq, fn, fc, fw, a1, a2, a3, a4, a5, a6, a7, a8, a9, a10, a11, a12, a13, a14, a15, a16, a17, a18, a19, a20, a21, a22)) : wpX_work post (fp, 2, 1, fo, fy, fr, fm, fs, fd, fq, fn, fc, fw, a1, a2, a3, a4, a5, a6, a7, a8, a9, a10, a11, a12, a13, a14, a15, a16, a17, a18, a19, a20, a21, a22) :=
  mr_work hk hp h6 hs (mr_69 hk ho (by decide) hd (fun _ _ h => mr_one0 (h _ _ _ _ _ _ _ _ _ _ _ _ _ _ _ _ _ _ _ _ _ _ _ _ _ _ _ _ _ _ _ _ _ _ _ H)))
theorem mr_workJump {post : Int32 → St2 → Prop} {fp fo fy fr fm fs fd fq fn fc fw : Int32} {a1 a2 a3 a4 a5 a6 a7 a8 a9 a10 a11 a12 a13 a14 a15 a16 a17 a18 a19 a20 a21 a22 : Nat → Int32} {k : Nat} (hk : k < 60) (hp : a11 0 = nI k) (h6 : a6 k = 0) (hs : ¬ fs = 300) (ho : a1 k = 13) (hd : a14 0 = 0 ∨ a14 0 = 1) (H : ∀ b11 : Nat → Int32, b11 0 = a2 k → post (-1) (fp, 2, 1, fo, fy, fr, fm, (fs + 1), fd, fq, fn, fc, fw, a1, a2, a3, a4, a5, a6, a7, a8, a9, a10, b11, a12, a13, a14, a15, a16, a17, a18, a19, a20, a21, a22)) : wpX_work post (fp, 2, 1, fo, fy, fr, fm, fs, fd, fq, fn, fc, fw, a1, a2, a3, a4, a5, a6, a7, a8, a9, a10, a11, a12, a13, a14, a15, a16, a17, a18, a19, a20, a21, a22) :=
  mr_work hk hp h6 hs (mr_69 hk ho (by decide) hd (fun _ h _ => mr_one13 (fun b11 h11 => h _ _ _ _ _ _ _ _ _ _ _ _ _ _ _ _ _ _ _ _ _ _ _ _ _ _ _ _ _ _ _ _ _ _ _ (H b11 h11))))
theorem mr_workB {post : Int32 → St2 → Prop} {fp fr fm fs fq fn fc fw : Int32} {a1 a2 a3 a4 a5 a6 a7 a8 a9 a10 a11 a12 a13 a14 a15 a16 a17 a18 a19 a20 a21 a22 : Nat → Int32} {k : Nat} {o m : Int32} (hk : k < 60) (hp : a11 0 = nI k) (h6 : a6 k = 0) (hs : ¬ fs = 300) (ho : a1 k = o) (hb : (o = 1 ∨ o = 2 ∨ o = 3 ∨ o = 21) ∨ o = 15) (hn : o = 3 ∨ o = 21 → ∃ j : Nat, j < 4 ∧ a2 k = nI j) (hd : a14 0 = 0) (hm : mr_fl m (o = 15))
    (H : ∀ (gy : Int32) (b11 b14 b15 b16 b17 b18 b19 : Nat → Int32), b11 0 = nI (k + 1) → b14 0 = 1 → post (-1) (fp, 2, 1, 0, gy, fr, fm, (fs + 1), m, fq, fn, fc, fw, a1, a2, a3, a4, a5, a6, a7, a8, a9, a10, b11, a12, a13, b14, b15, b16, b17, b18, b19, a20, a21, a22)) : wpX_work post (fp, 2, 1, 0, 0, fr, fm, fs, 0, fq, fn, fc, fw, a1, a2, a3, a4, a5, a6, a7, a8, a9, a10, a11, a12, a13, a14, a15, a16, a17, a18, a19, a20, a21, a22) := by
  rcases hb with hb | hb
  · have n15 : ¬ o = 15 := by
      rcases hb with e | e | e | e <;> rw [e] <;> decide
    have ht : mr_tk o = 0 := by
      rcases hb with e | e | e | e <;> rw [e] <;> decide
    have em := mr_f hm n15
    subst em
    exact mr_work hk hp h6 hs (mr_69 hk ho ht (Or.inl hd) (fun _ h _ => mr_oneB hb hn hd (fun b11 b14 b15 b16 h11 h14 => h _ _ _ _ _ _ _ _ _ _ _ _ _ _ _ _ _ _ _ _ _ _ _ _ _ _ _ _ _ _ _ _ _ _ _ (H 0 b11 b14 b15 b16 a17 a18 a19 (by rw [h11, nI_1]) h14))))
  · have em := mr_t hm hb
    subst hb em
    exact mr_work hk hp h6 hs (mr_69 hk ho (by decide) (Or.inl hd) (fun _ h _ => mr_one15 hd (fun b11 b14 b15 b16 b17 b18 b19 h11 h14 => h _ _ _ _ _ _ _ _ _ _ _ _ _ _ _ _ _ _ _ _ _ _ _ _ _ _ _ _ _ _ _ _ _ _ _ (H 1 b11 b14 b15 b16 b17 b18 b19 (by rw [h11, hp, nI_1]) h14))))
end
section
/-! the run: what the loop does, case by case -/
/-- the code in memory: one instruction o with the number n at place k, or none -/
def mr_mem (i o n : Int32) (a1 a2 : Nat → Int32) : Prop := (mr_fits i o n ∧ ∃ k : Nat, k < 60 ∧ i = nI k ∧ a1 k = o ∧ a2 k = n ∧ ∀ j, j ≠ k → a1 j = 0) ∨ (¬ mr_fits i o n ∧ ∀ j, a1 j = 0)
theorem mr_memC {i o n : Int32} {a1 a2 : Nat → Int32} (h : mr_mem i o n a1 a2) : ∀ j, j < 59 → a1 j = 0 ∨ a1 (j + 1) = 0 := by
  intro j _
  rcases h with ⟨_, k, _, _, _, _, h⟩ | ⟨_, h⟩
  · by_cases e : j = k
    · exact Or.inr (h (j + 1) (by omega))
    · exact Or.inl (h j e)
  · exact Or.inl (h j)
theorem mr_hereN {i : Int32} (h : mr_here i) : ∃ k : Nat, k < 60 ∧ i = nI k := by
  obtain ⟨k, hk, e⟩ := nI_of2 (M := 59) (n := 59) (by decide) h.1 (Int32.not_lt.mp h.2)
  exact ⟨k, by omega, e⟩
theorem mr_stk : ∀ j : Nat, j < 24 → ¬ nI j = 0 → ¬ ((¬ nI j < 1 ∧ nI j ≤ 3) ∨ nI j = 15 ∨ nI j = 21) → ¬ nI j = 13 → 0 < mr_tk (nI j) := by decide +kernel
theorem mr_brg : ∀ j : Nat, j < 24 → ((¬ nI j < 1 ∧ nI j ≤ 3) ∨ nI j = 15 ∨ nI j = 21) → (nI j = 1 ∨ nI j = 2 ∨ nI j = 3 ∨ nI j = 21) ∨ nI j = 15 := by decide +kernel
theorem mr_op {i o n : Int32} (h : mr_fits i o n) : ∃ j : Nat, j < 24 ∧ o = nI j := by
  obtain ⟨k, hk, e⟩ := nI_of2 (M := 23) (n := 23) (by decide) h.2.1.1 (Int32.not_lt.mp h.2.1.2)
  exact ⟨k, by omega, e⟩
theorem mr_num {i o n : Int32} (h : mr_fits i o n) (g : mr_four o) : ∃ j : Nat, j < 4 ∧ n = nI j := by
  obtain ⟨k, hk, e⟩ := nI_of2 (M := 3) (n := 3) (by decide) (h.2.2.1 g).1 (Int32.not_lt.mp (h.2.2.1 g).2)
  exact ⟨k, by omega, e⟩
theorem mr_tired {post : Int32 → St2 → Prop} {fp fo fy fr fm fd fq fn fc fw : Int32} {a1 a2 a3 a4 a5 a6 a7 a8 a9 a10 a11 a12 a13 a14 a15 a16 a17 a18 a19 a20 a21 a22 : Nat → Int32} {k : Nat} (hk : k < 60) (hp : a11 0 = nI k) (h6 : a6 k = 0) (ho : a1 k = 13) (h2 : a2 k = nI k) (hd : a14 0 = 0) (H : ∀ b11 : Nat → Int32, post 2 (fp, 2, 0, fo, fy, fr, fm, 300, fd, fq, fn, fc, fw, a1, a2, a3, a4, a5, a6, a7, a8, a9, a10, b11, a12, a13, a14, a15, a16, a17, a18, a19, a20, a21, a22)) : ∃ N, wX_run_48 post N (-1) fp 2 1 fo fy fr fm 0 fd fq fn fc fw a1 a2 a3 a4 a5 a6 a7 a8 a9 a10 a11 a12 a13 a14 a15 a16 a17 a18 a19 a20 a21 a22 := by
  have h : ∃ N, wX_run_48 post (N + 1) (-1) fp 2 1 fo fy fr fm (nI 0) fd fq fn fc fw a1 a2 a3 a4 a5 a6 a7 a8 a9 a10 a11 a12 a13 a14 a15 a16 a17 a18 a19 a20 a21 a22 :=
    pk_loop (fun N i s => wX_run_48 post (N + 1) (-1) fp 2 1 fo fy fr fm (nI i) fd fq fn fc fw a1 a2 a3 a4 a5 a6 a7 a8 a9 a10 s a12 a13 a14 a15 a16 a17 a18 a19 a20 a21 a22) (fun _ s => s 0 = nI k) 300 0 a11 (by omega) hp
      (fun N s h => br_t rfl (mr_workTired hk h (br_f (by decide) (H s))))
      (fun N i s hi h hw => br_t rfl (mr_workJump hk h h6 (fun z => absurd ((nI_eq (by omega) (by omega)).mp (show nI i = nI 300 from z)) (by omega)) ho (Or.inl hd) (fun b11 h11 => by
        have t : wX_run_48 post (N + 1) (-1) fp 2 1 fo fy fr fm (nI (i + 1)) fd fq fn fc fw a1 a2 a3 a4 a5 a6 a7 a8 a9 a10 b11 a12 a13 a14 a15 a16 a17 a18 a19 a20 a21 a22 := hw b11 (h11.trans h2)
        rw [← nI_1 i] at t
        exact t)))
  obtain ⟨N, hN⟩ := h
  exact ⟨N + 1, hN⟩
theorem mr_core {post : Int32 → St2 → Prop} {fp fr fm fq fn fc fw : Int32} {a1 a2 a3 a4 a5 a6 a7 a8 a9 a10 a11 a12 a13 a14 a15 a16 a17 a18 a19 a20 a21 a22 : Nat → Int32} {i o n b d s : Int32} (hS : mr_spec i o n b d s) (hM : mr_mem i o n a1 a2) (h6 : ∀ j, j < 60 → a6 j = 0) (hp : a11 0 = i) (hd : a14 0 = 0)
    (H : ∀ m : Int32, mr_fl m (mr_fits i o n ∧ o = 15) → ∀ (fp' fl' ff' fo' fy' fr' fm' fq' fn' fc' fw' : Int32) (a1' a2' a3' a4' a5' a6' a7' a8' a9' a10' a11' a12' a13' a14' a15' a16' a17' a18' a19' a20' a21' a22' : Nat → Int32), post d (fp', fl', ff', fo', fy', fr', fm', s, m, fq', fn', fc', fw', a1', a2', a3', a4', a5', a6', a7', a8', a9', a10', a11', a12', a13', a14', a15', a16', a17', a18', a19', a20', a21', a22')) : ∃ N, wX_run_48 post N (-1) fp 2 1 0 0 fr fm 0 0 fq fn fc fw a1 a2 a3 a4 a5 a6 a7 a8 a9 a10 a11 a12 a13 a14 a15 a16 a17 a18 a19 a20 a21 a22 := by
  have n0 : ¬ (0 : Int32) = 300 := by decide
  have n1 : ¬ (0 : Int32) + 1 = 300 := by decide
  rcases hS with ⟨p, _, rfl, rfl⟩ | ⟨p, q, _, rfl, rfl⟩ | ⟨p, q, _, rfl, rfl⟩ | ⟨p, q, r, _, rfl, rfl⟩ | ⟨p, q, r, _, rfl, rfl⟩ | ⟨p, q, r, _, rfl, rfl⟩ | ⟨p, q, r, t, _, rfl, rfl⟩ | ⟨p, q, r, t, _, rfl, rfl⟩ | ⟨p, q, r, t, _, rfl, rfl⟩
  · have hi : i < 0 ∨ ¬ i ≤ 59 := by
      by_cases e : i < 0
      · exact Or.inl e
      · exact Or.inr (fun g => p ⟨e, Int32.not_lt.mpr g⟩)
    exact ⟨2, br_t rfl (mr_workOut hp hi (br_f (by decide) (H 0 (mr_ff (fun z => p z.1.1)) _ _ _ _ _ _ _ _ _ _ _ _ _ _ _ _ _ _ _ _ _ _ _ _ _ _ _ _ _ _ _ _ _)))⟩
  · obtain ⟨k, hk, e⟩ := mr_hereN p
    have h1 : a1 k = 0 := hM.elim (fun z => absurd z.1 q) (fun z => z.2 k)
    exact ⟨2, br_t rfl (mr_workStop hk (hp.trans e) (h6 k hk) n0 h1 (Or.inl hd) (br_f (by decide) (H 0 (mr_ff (fun z => q z.1)) _ _ _ _ _ _ _ _ _ _ _ _ _ _ _ _ _ _ _ _ _ _ _ _ _ _ _ _ _ _ _ _ _)))⟩
  · obtain ⟨_, k, hk, e, h1, h2, h9⟩ | ⟨z, _⟩ := hM
    · exact ⟨2, br_t rfl (mr_workStop hk (hp.trans e) (h6 k hk) n0 (h1.trans q) (Or.inl hd) (br_f (by decide) (H 0 (mr_ff (fun z => absurd (q.symm.trans z.2) (by decide))) _ _ _ _ _ _ _ _ _ _ _ _ _ _ _ _ _ _ _ _ _ _ _ _ _ _ _ _ _ _ _ _ _)))⟩
    · exact absurd p z
  · obtain ⟨_, k, hk, e, h1, h2, h9⟩ | ⟨z, _⟩ := hM
    · obtain ⟨j, hj, ej⟩ := mr_op p
      have hb : (o = 1 ∨ o = 2 ∨ o = 3 ∨ o = 21) ∨ o = 15 := by
        subst ej
        exact mr_brg j hj q
      have ek : k = 59 := (nI_eq (by omega) (by omega)).mp (show nI k = nI 59 from e.symm.trans r)
      by_cases e15 : o = 15
      · exact ⟨3, br_t rfl (mr_workB (m := 1) hk (hp.trans e) (h6 k hk) n0 h1 hb (fun z => absurd z (by rw [e15]; decide)) hd (mr_ft e15) (fun gy b11 b14 b15 b16 b17 b18 b19 h11 h14 => br_t rfl (mr_workOut (p := nI 60) (by rw [h11, ek]) (Or.inr (by decide)) (br_f (by decide) (H 1 (mr_ft ⟨p, e15⟩) _ _ _ _ _ _ _ _ _ _ _ _ _ _ _ _ _ _ _ _ _ _ _ _ _ _ _ _ _ _ _ _ _)))))⟩
      · exact ⟨3, br_t rfl (mr_workB (m := 0) hk (hp.trans e) (h6 k hk) n0 h1 hb (fun z => by rw [h2]; exact mr_num p (z.elim Or.inl (fun z => Or.inr (Or.inr (Or.inr (Or.inr (Or.inr (Or.inl z)))))))) hd (mr_ff e15) (fun gy b11 b14 b15 b16 b17 b18 b19 h11 h14 => br_t rfl (mr_workOut (p := nI 60) (by rw [h11, ek]) (Or.inr (by decide)) (br_f (by decide) (H 0 (mr_ff (fun z => e15 z.2)) _ _ _ _ _ _ _ _ _ _ _ _ _ _ _ _ _ _ _ _ _ _ _ _ _ _ _ _ _ _ _ _ _)))))⟩
    · exact absurd p z
  · obtain ⟨_, k, hk, e, h1, h2, h9⟩ | ⟨z, _⟩ := hM
    · obtain ⟨j, hj, ej⟩ := mr_op p
      have hb : (o = 1 ∨ o = 2 ∨ o = 3 ∨ o = 21) ∨ o = 15 := by
        subst ej
        exact mr_brg j hj q
      have hk1 : k + 1 < 60 := by
        rcases Nat.lt_or_ge (k + 1) 60 with z | z
        · exact z
        · exact absurd (e.trans (show nI k = 59 by rw [show k = 59 by omega]; rfl)) r
      by_cases e15 : o = 15
      · exact ⟨3, br_t rfl (mr_workB (m := 1) hk (hp.trans e) (h6 k hk) n0 h1 hb (fun z => absurd z (by rw [e15]; decide)) hd (mr_ft e15) (fun gy b11 b14 b15 b16 b17 b18 b19 h11 h14 => br_t rfl (mr_workStop hk1 h11 (h6 _ hk1) n1 (h9 _ (by omega)) (Or.inr h14) (br_f (by decide) (H 1 (mr_ft ⟨p, e15⟩) _ _ _ _ _ _ _ _ _ _ _ _ _ _ _ _ _ _ _ _ _ _ _ _ _ _ _ _ _ _ _ _ _)))))⟩
      · exact ⟨3, br_t rfl (mr_workB (m := 0) hk (hp.trans e) (h6 k hk) n0 h1 hb (fun z => by rw [h2]; exact mr_num p (z.elim Or.inl (fun z => Or.inr (Or.inr (Or.inr (Or.inr (Or.inr (Or.inl z)))))))) hd (mr_ff e15) (fun gy b11 b14 b15 b16 b17 b18 b19 h11 h14 => br_t rfl (mr_workStop hk1 h11 (h6 _ hk1) n1 (h9 _ (by omega)) (Or.inr h14) (br_f (by decide) (H 0 (mr_ff (fun z => e15 z.2)) _ _ _ _ _ _ _ _ _ _ _ _ _ _ _ _ _ _ _ _ _ _ _ _ _ _ _ _ _ _ _ _ _)))))⟩
    · exact absurd p z
  · obtain ⟨_, k, hk, e, h1, h2, h9⟩ | ⟨z, _⟩ := hM
    · exact mr_tired hk (hp.trans e) (h6 k hk) (h1.trans q) (h2.trans (r.trans e)) hd (fun b11 => H 0 (mr_ff (fun z => absurd (q.symm.trans z.2) (by decide))) _ _ _ _ _ _ _ _ _ _ _ _ _ _ _ _ _ _ _ _ _ _ _ _ _ _ _ _ _ _ _ _ _)
    · exact absurd p z
  · obtain ⟨_, k, hk, e, h1, h2, h9⟩ | ⟨z, _⟩ := hM
    · exact ⟨3, br_t rfl (mr_workJump hk (hp.trans e) (h6 k hk) n0 (h1.trans q) (Or.inl hd) (fun b11 h11 => br_t rfl (mr_workOut (h11.trans h2) t (br_f (by decide) (H 0 (mr_ff (fun z => absurd (q.symm.trans z.2) (by decide))) _ _ _ _ _ _ _ _ _ _ _ _ _ _ _ _ _ _ _ _ _ _ _ _ _ _ _ _ _ _ _ _ _)))))⟩
    · exact absurd p z
  · obtain ⟨_, k, hk, e, h1, h2, h9⟩ | ⟨z, _⟩ := hM
    · obtain ⟨k', hk', e'⟩ := mr_hereN (i := n) ⟨t.1, Int32.not_lt.mpr t.2⟩
      have ne : k' ≠ k := fun z => r (by rw [e', e, z])
      exact ⟨3, br_t rfl (mr_workJump hk (hp.trans e) (h6 k hk) n0 (h1.trans q) (Or.inl hd) (fun b11 h11 => br_t rfl (mr_workStop hk' (h11.trans (h2.trans e')) (h6 k' hk') n1 (h9 k' ne) (Or.inl hd) (br_f (by decide) (H 0 (mr_ff (fun z => absurd (q.symm.trans z.2) (by decide))) _ _ _ _ _ _ _ _ _ _ _ _ _ _ _ _ _ _ _ _ _ _ _ _ _ _ _ _ _ _ _ _ _)))))⟩
    · exact absurd p z
  · obtain ⟨_, k, hk, e, h1, h2, h9⟩ | ⟨z, _⟩ := hM
    · obtain ⟨j, hj, ej⟩ := mr_op p
      have ht : 0 < mr_tk o := by
        subst ej
        exact mr_stk j hj q r t
      exact ⟨2, br_t rfl (mr_workStack hk (hp.trans e) (h6 k hk) n0 h1 ht hd (br_f (by decide) (H 0 (mr_ff (fun z => r (Or.inr (Or.inl z.2)))) _ _ _ _ _ _ _ _ _ _ _ _ _ _ _ _ _ _ _ _ _ _ _ _ _ _ _ _ _ _ _ _ _)))⟩
    · exact absurd p z
theorem mr_run {post : Int32 → St2 → Prop} {ff fr fm fs fd fq fn fc fw : Int32} {a1 a2 a3 a4 a5 a6 a7 a8 a9 a10 a11 a12 a13 a14 a15 a16 a17 a18 a19 a20 a21 a22 : Nat → Int32} {i o n b d s a : Int32} (hS : mr_spec i o n b d s) (hM : mr_mem i o n a1 a2) (h3 : ∀ j, j < 4 → a3 j = -1) (H : ∀ m : Int32, mr_fl m (mr_fits i o n ∧ o = 15) → ∀ (fp' fl' ff' fo' fy' fr' fm' fq' fn' fc' fw' : Int32) (a1' a2' a3' a4' a5' a6' a7' a8' a9' a10' a11' a12' a13' a14' a15' a16' a17' a18' a19' a20' a21' a22' : Nat → Int32), post d (fp', fl', ff', fo', fy', fr', fm', s, m, fq', fn', fc', fw', a1', a2', a3', a4', a5', a6', a7', a8', a9', a10', a11', a12', a13', a14', a15', a16', a17', a18', a19', a20', a21', a22')) : wpX_run post (0, 2, ff, 0, 0, fr, fm, fs, fd, fq, fn, fc, fw, a1, a2, a3, a4, a5, a6, a7, a8, a9, a10, a11, a12, a13, a14, a15, a16, a17, a18, a19, a20, a21, a22) i a := by
  unfold wpX_run
  exact mr_prepare h3 (mr_memC hM) (fun b5 b6 b7 h6 => mr_open (fun b11 b12 b13 b14 h11 h14 => mr_setLocal (fun c12 c13 => mr_core hS hM h6 h11 h14 H)))
end
section
/-! the object made, its code set, the law's last checks; the owed statement -/
theorem mr_init {post : St2 → Prop} {mc ms : Nat} (hc : 22 ≤ mc) (hs : 872 ≤ ms) (H : ∀ b3 b4 : Nat → Int32, (∀ j, j < 4 → b3 j = -1) → post (0, 2, 0, 0, 0, 0, 0, 0, 0, 0, 0, 0, 0, (fun _ => 0), (fun _ => 0), b3, b4, (fun _ => 0), (fun _ => 0), (fun _ => 0), (fun _ => 0), (fun _ => 0), (fun _ => 0), (fun _ => 0), (fun _ => 0), (fun _ => 0), (fun _ => 0), (fun _ => 0), (fun _ => 0), (fun _ => 0), (fun _ => 0), (fun _ => 0), (fun _ => 0), (fun _ => 0), (fun _ => 0))) : wpX_init post mc ms (0, 0, 0, 0, 0, 0, 0, 0, 0, 0, 0, 0, 0) := by
  unfold wpX_init
  refine ⟨by omega, by omega, by omega, by omega, by omega, by omega, by omega, by omega, by omega, by omega, by omega, by omega, by omega, by omega, by omega, by omega, by omega, by omega, by omega, by omega, by omega, by omega, by omega, by omega, by omega, by omega, by omega, by omega, by omega, by omega, by omega, by omega, by omega, by omega, by omega, by omega, by omega, by omega, by omega, by omega, by omega, by omega, by omega, by omega, ?_⟩
  exact pk_loop (fun n i s => wX_init_184 post mc ms 22 872 0 2 0 0 0 0 0 0 0 0 0 0 0 n (nI i) (fun _ => 0) (fun _ => 0) s (fun _ => 0) (fun _ => 0) (fun _ => 0) (fun _ => 0) (fun _ => 0) (fun _ => 0) (fun _ => 0) (fun _ => 0) (fun _ => 0) (fun _ => 0) (fun _ => 0) (fun _ => 0) (fun _ => 0) (fun _ => 0) (fun _ => 0) (fun _ => 0) (fun _ => 0) (fun _ => 0) (fun _ => 0)) (fun i s => ∀ j, j < i → s j = -1) 4 0 (fun _ => 0) (by omega) (fun j hj => absurd hj (by omega))
    (fun n s h => pk_le 4 4 (fun _ =>
      pk_loop (fun n i t => wX_init_204 post mc ms 22 872 0 2 0 0 0 0 0 0 0 0 0 0 0 n (nI i) (fun _ => 0) (fun _ => 0) s t (fun _ => 0) (fun _ => 0) (fun _ => 0) (fun _ => 0) (fun _ => 0) (fun _ => 0) (fun _ => 0) (fun _ => 0) (fun _ => 0) (fun _ => 0) (fun _ => 0) (fun _ => 0) (fun _ => 0) (fun _ => 0) (fun _ => 0) (fun _ => 0) (fun _ => 0) (fun _ => 0)) (fun _ _ => True) 16 0 (fun _ => 0) (by omega) trivial
        (fun n t _ => pk_le 16 16 (fun _ => H s t h) (fun z => absurd z (by omega)))
        (fun n i t hi _ hw => pk_le 16 i (fun z => absurd z (by omega)) (fun _ => ⟨pk_in i 16 hi, fun b _ => nm_r (nI_1 i) (hw b trivial)⟩)))
      (fun z => absurd z (by omega)))
    (fun n i s hi h hw => pk_le 4 i (fun z => absurd z (by omega)) (fun _ => ⟨pk_in i 4 hi, fun b e => nm_r (nI_1 i) (hw b (mr_fill (by omega) h e rfl))⟩))
theorem mr_code {post : Int32 → St2 → Prop} {fp fl ff fo fy fr fm fs fd fq fn fc fw : Int32} {a1 a2 a3 a4 a5 a6 a7 a8 a9 a10 a11 a12 a13 a14 a15 a16 a17 a18 a19 a20 a21 a22 : Nat → Int32} {i o n : Int32} (H1 : mr_fits i o n → ∀ b1 b2 : Nat → Int32, b1 = upd a1 i.toNatClampNeg o.toInt8.toInt32 → b2 = upd a2 i.toNatClampNeg n → post 1 (0, fl, ff, fo, fy, fr, fm, fs, fd, fq, fn, fc, fw, b1, b2, a3, a4, a5, a6, a7, a8, a9, a10, a11, a12, a13, a14, a15, a16, a17, a18, a19, a20, a21, a22)) (H0 : ¬ mr_fits i o n → post 0 (fp, fl, ff, fo, fy, fr, fm, fs, fd, fq, fn, fc, fw, a1, a2, a3, a4, a5, a6, a7, a8, a9, a10, a11, a12, a13, a14, a15, a16, a17, a18, a19, a20, a21, a22)) : wpX_code post (fp, fl, ff, fo, fy, fr, fm, fs, fd, fq, fn, fc, fw, a1, a2, a3, a4, a5, a6, a7, a8, a9, a10, a11, a12, a13, a14, a15, a16, a17, a18, a19, a20, a21, a22) i o n := by
  have h118 : mr_fits i o n → wX_code_118 post i o n fp fl ff fo fy fr fm fs fd fq fn fc fw a1 a2 a3 a4 a5 a6 a7 a8 a9 a10 a11 a12 a13 a14 a15 a16 a17 a18 a19 a20 a21 a22 := by
    intro f
    obtain ⟨k, hk, e⟩ := mr_hereN f.1
    have hi : vp_in i 60 := by
      rw [e]
      exact vp_in_nI hk (by omega)
    unfold wX_code_118
    exact ⟨hi, fun b1 e1 => ⟨hi, fun b2 e2 => H1 f b1 b2 e1 e2⟩⟩
  have h102 : ∀ x5, mr_fl x5 (mr_three o) → mr_here i → (¬ o < 0 ∧ ¬ 23 < o) → (mr_four o → ¬ n < 0 ∧ ¬ 3 < n) → wX_code_102 post i o n x5 fp fl ff fo fy fr fm fs fd fq fn fc fw a1 a2 a3 a4 a5 a6 a7 a8 a9 a10 a11 a12 a13 a14 a15 a16 a17 a18 a19 a20 a21 a22 := by
    intro x5 h5 p q r
    unfold wX_code_102
    rcases h5 with ⟨rfl, t⟩ | ⟨rfl, t⟩
    · exact br_f (by decide) (br_c (fun e => H0 (fun f => (f.2.2.2 t).1 e)) (fun e => br_c (fun g => h118 ⟨p, q, r, fun _ => ⟨e, Int32.not_lt.mpr g⟩⟩) (fun g => H0 (fun f => g (Int32.not_lt.mp (f.2.2.2 t).2)))))
    · exact br_t rfl (h118 ⟨p, q, r, fun z => absurd z t⟩)
  have h86 : ∀ x4 z0, mr_fl x4 (mr_four o) → mr_fl z0 (mr_three o) → mr_here i → (¬ o < 0 ∧ ¬ 23 < o) → wX_code_86 post i o n x4 z0 fp fl ff fo fy fr fm fs fd fq fn fc fw a1 a2 a3 a4 a5 a6 a7 a8 a9 a10 a11 a12 a13 a14 a15 a16 a17 a18 a19 a20 a21 a22 := by
    intro x4 z0 h4 h5 p q
    unfold wX_code_86
    rcases h4 with ⟨rfl, t⟩ | ⟨rfl, t⟩
    · exact br_f (by decide) (br_c (fun e => H0 (fun f => (f.2.2.1 t).1 e)) (fun e => br_c (fun g => H0 (fun f => (f.2.2.1 t).2 g)) (fun g => h102 z0 h5 p q (fun _ => ⟨e, g⟩))))
    · exact br_t rfl (h102 z0 h5 p q (fun z => absurd z t))
  have h67 : ∀ z0, mr_fl z0 (mr_four o) → mr_here i → (¬ o < 0 ∧ ¬ 23 < o) → wX_code_67 post i o n z0 fp fl ff fo fy fr fm fs fd fq fn fc fw a1 a2 a3 a4 a5 a6 a7 a8 a9 a10 a11 a12 a13 a14 a15 a16 a17 a18 a19 a20 a21 a22 := by
    intro z0 h4 p q
    unfold wX_code_67 wX_code_81
    exact br_c (fun e => h86 z0 1 h4 (mr_ft (Or.inl e)) p q) (fun e => br_c (fun g => h86 z0 1 h4 (mr_ft (Or.inr g)) p q) (fun g => h86 z0 0 h4 (mr_ff (fun z => z.elim e g)) p q))
  have h62 : mr_four o → mr_here i → (¬ o < 0 ∧ ¬ 23 < o) → wX_code_62 post i o n fp fl ff fo fy fr fm fs fd fq fn fc fw a1 a2 a3 a4 a5 a6 a7 a8 a9 a10 a11 a12 a13 a14 a15 a16 a17 a18 a19 a20 a21 a22 := by
    intro t p q
    unfold wX_code_62
    exact h67 1 (mr_ft t) p q
  unfold wpX_code
  refine br_c (fun e => H0 (fun f => f.1.1 e)) (fun p1 => br_c (fun e => H0 (fun f => f.1.2 e)) (fun p2 => br_c (fun e => H0 (fun f => f.2.1.1 e)) (fun q1 => br_c (fun q2 => ?_) (fun e => H0 (fun f => e (Int32.not_lt.mp f.2.1.2))))))
  have h40 : mr_four o → wX_code_62 post i o n fp fl ff fo fy fr fm fs fd fq fn fc fw a1 a2 a3 a4 a5 a6 a7 a8 a9 a10 a11 a12 a13 a14 a15 a16 a17 a18 a19 a20 a21 a22 := fun t => h62 t ⟨p1, p2⟩ ⟨q1, Int32.not_lt.mpr q2⟩
  exact br_c (fun e => h40 (Or.inl e)) (fun e1 => br_c (fun e => h40 (Or.inr (Or.inl e))) (fun e2 => br_c (fun e => h40 (Or.inr (Or.inr (Or.inl e)))) (fun e3 => br_c (fun e => h40 (Or.inr (Or.inr (Or.inr (Or.inl e))))) (fun e4 => br_c (fun e => h40 (Or.inr (Or.inr (Or.inr (Or.inr (Or.inl e)))))) (fun e5 => br_c (fun e => h40 (Or.inr (Or.inr (Or.inr (Or.inr (Or.inr (Or.inl e))))))) (fun e6 => br_c (fun e => h40 (Or.inr (Or.inr (Or.inr (Or.inr (Or.inr (Or.inr e))))))) (fun e7 => h67 0 (mr_ff (fun z => z.elim e1 (fun z => z.elim e2 (fun z => z.elim e3 (fun z => z.elim e4 (fun z => z.elim e5 (fun z => z.elim e6 e7))))))) ⟨p1, p2⟩ ⟨q1, Int32.not_lt.mpr q2⟩)))))))
theorem mr_above {post : Int32 → St2 → Prop} {fp fl ff fo fy fr fm fs fd fq fn fc fw : Int32} {a1 a2 a3 a4 a5 a6 a7 a8 a9 a10 a11 a12 a13 a14 a15 a16 a17 a18 a19 a20 a21 a22 : Nat → Int32} {c p : Int32} (H : ∀ r, mr_fl r (¬ c < 0 ∧ ¬ 3 < c ∧ ¬ p < -1 ∧ p < c) → ∀ (fp' fl' ff' fo' fy' fr' fm' fs' fd' fq' fn' fc' fw' : Int32) (a1' a2' a3' a4' a5' a6' a7' a8' a9' a10' a11' a12' a13' a14' a15' a16' a17' a18' a19' a20' a21' a22' : Nat → Int32), post r (fp', fl', ff', fo', fy', fr', fm', fs', fd', fq', fn', fc', fw', a1', a2', a3', a4', a5', a6', a7', a8', a9', a10', a11', a12', a13', a14', a15', a16', a17', a18', a19', a20', a21', a22')) : wpX_above post (fp, fl, ff, fo, fy, fr, fm, fs, fd, fq, fn, fc, fw, a1, a2, a3, a4, a5, a6, a7, a8, a9, a10, a11, a12, a13, a14, a15, a16, a17, a18, a19, a20, a21, a22) c p := by
  unfold wpX_above
  refine br_c (fun e => H 0 (mr_ff (fun z => z.1 e)) _ _ _ _ _ _ _ _ _ _ _ _ _ _ _ _ _ _ _ _ _ _ _ _ _ _ _ _ _ _ _ _ _ _ _) (fun e1 => br_c (fun e => H 0 (mr_ff (fun z => z.2.1 e)) _ _ _ _ _ _ _ _ _ _ _ _ _ _ _ _ _ _ _ _ _ _ _ _ _ _ _ _ _ _ _ _ _ _ _) (fun e2 => br_c (fun e => H 0 (mr_ff (fun z => z.2.2.1 e)) _ _ _ _ _ _ _ _ _ _ _ _ _ _ _ _ _ _ _ _ _ _ _ _ _ _ _ _ _ _ _ _ _ _ _) (fun e3 => br_c (fun e => ⟨?_, fun b3 _ => H 1 (mr_ft ⟨e1, e2, e3, e⟩) _ _ _ _ _ _ _ _ _ _ _ _ _ _ _ _ _ _ _ _ _ _ _ _ _ _ _ _ _ _ _ _ _ _ _⟩) (fun e => H 0 (mr_ff (fun z => e z.2.2.2)) _ _ _ _ _ _ _ _ _ _ _ _ _ _ _ _ _ _ _ _ _ _ _ _ _ _ _ _ _ _ _ _ _ _ _))))
  obtain ⟨k, hk, g⟩ := nI_of2 (M := 3) (n := 3) (by decide) e1 (Int32.not_lt.mp e2)
  rw [g]
  exact vp_in_nI (by omega) (by omega)
theorem mr_method {post : Int32 → St2 → Prop} {fp fl ff fo fy fr fm fs fd fq fn fc fw : Int32} {a1 a2 a3 a4 a5 a6 a7 a8 a9 a10 a11 a12 a13 a14 a15 a16 a17 a18 a19 a20 a21 a22 : Nat → Int32} {c n i : Int32} (H : ∀ r, mr_fl r (¬ c < 0 ∧ ¬ 3 < c ∧ ¬ n < 0 ∧ ¬ 3 < n ∧ ¬ i < -1 ∧ i ≤ 59) → ∀ (fp' fl' ff' fo' fy' fr' fm' fs' fd' fq' fn' fc' fw' : Int32) (a1' a2' a3' a4' a5' a6' a7' a8' a9' a10' a11' a12' a13' a14' a15' a16' a17' a18' a19' a20' a21' a22' : Nat → Int32), post r (fp', fl', ff', fo', fy', fr', fm', fs', fd', fq', fn', fc', fw', a1', a2', a3', a4', a5', a6', a7', a8', a9', a10', a11', a12', a13', a14', a15', a16', a17', a18', a19', a20', a21', a22')) : wpX_method post (fp, fl, ff, fo, fy, fr, fm, fs, fd, fq, fn, fc, fw, a1, a2, a3, a4, a5, a6, a7, a8, a9, a10, a11, a12, a13, a14, a15, a16, a17, a18, a19, a20, a21, a22) c n i := by
  unfold wpX_method
  refine br_c (fun e => H 0 (mr_ff (fun z => z.1 e)) _ _ _ _ _ _ _ _ _ _ _ _ _ _ _ _ _ _ _ _ _ _ _ _ _ _ _ _ _ _ _ _ _ _ _) (fun e1 => br_c (fun e => H 0 (mr_ff (fun z => z.2.1 e)) _ _ _ _ _ _ _ _ _ _ _ _ _ _ _ _ _ _ _ _ _ _ _ _ _ _ _ _ _ _ _ _ _ _ _) (fun e2 => br_c (fun e => H 0 (mr_ff (fun z => z.2.2.1 e)) _ _ _ _ _ _ _ _ _ _ _ _ _ _ _ _ _ _ _ _ _ _ _ _ _ _ _ _ _ _ _ _ _ _ _) (fun e3 => br_c (fun e => H 0 (mr_ff (fun z => z.2.2.2.1 e)) _ _ _ _ _ _ _ _ _ _ _ _ _ _ _ _ _ _ _ _ _ _ _ _ _ _ _ _ _ _ _ _ _ _ _) (fun e4 => br_c (fun e => H 0 (mr_ff (fun z => z.2.2.2.2.1 e)) _ _ _ _ _ _ _ _ _ _ _ _ _ _ _ _ _ _ _ _ _ _ _ _ _ _ _ _ _ _ _ _ _ _ _) (fun e5 => br_c (fun e => ⟨?_, fun b4 _ => H 1 (mr_ft ⟨e1, e2, e3, e4, e5, e⟩) _ _ _ _ _ _ _ _ _ _ _ _ _ _ _ _ _ _ _ _ _ _ _ _ _ _ _ _ _ _ _ _ _ _ _⟩) (fun e => H 0 (mr_ff (fun z => e z.2.2.2.2.2)) _ _ _ _ _ _ _ _ _ _ _ _ _ _ _ _ _ _ _ _ _ _ _ _ _ _ _ _ _ _ _ _ _ _ _))))))
  obtain ⟨k, hk, g⟩ := nI_of2 (M := 3) (n := 3) (by decide) e1 (Int32.not_lt.mp e2)
  obtain ⟨k', hk', g'⟩ := nI_of2 (M := 3) (n := 3) (by decide) e3 (Int32.not_lt.mp e4)
  rw [g, g']
  exact mr_in16 (by omega) (by omega)
theorem mr_L418 {post : Int32 → St0 → Prop} {mc ms kc ks : Nat} {x0 x2 x4 z : Int32} {fp fl ff fo fy fr fm fs fd fq fn fc fw : Int32} {a1 a2 a3 a4 a5 a6 a7 a8 a9 a10 a11 a12 a13 a14 a15 a16 a17 a18 a19 a20 a21 a22 : Nat → Int32} (hp : post 1 ()) : wL_lawOf_418 post mc ms x0 x2 x4 z z kc ks fp fl ff fo fy fr fm fs fd fq fn fc fw a1 a2 a3 a4 a5 a6 a7 a8 a9 a10 a11 a12 a13 a14 a15 a16 a17 a18 a19 a20 a21 a22 := by
  unfold wL_lawOf_418
  refine br_t rfl (mr_method ?_)
  intro r hr _ _ _ _ _ _ _ _ _ _ _ _ _ _ _ _ _ _ _ _ _ _ _ _ _ _ _ _ _ _ _ _ _ _ _
  have no : ¬ (¬ x4 < 0 ∧ ¬ 3 < x4 ∧ ¬ x2 < 0 ∧ ¬ 3 < x2 ∧ ¬ x0 < -1 ∧ x0 ≤ 59) → wL_lawOf_467 post mc ms r kc ks := fun h => br_t (mr_f hr h) hp
  exact br_c (fun e => no (fun z => z.1 e)) (fun e1 => br_c (fun e => no (fun z => z.2.1 e)) (fun e2 => br_c (fun e => no (fun z => z.2.2.1 e)) (fun e3 => br_c (fun e => no (fun z => z.2.2.2.1 e)) (fun e4 => br_c (fun e => no (fun z => z.2.2.2.2.1 e)) (fun e5 => br_c (fun e => no (fun z => Int32.not_lt.mpr z.2.2.2.2.2 e)) (fun e6 => br_t (mr_t hr ⟨e1, e2, e3, e4, e5, Int32.not_lt.mp e6⟩) hp))))))
theorem mr_L375 {post : Int32 → St0 → Prop} {mc ms kc ks : Nat} {x0 x2 x4 x5 z : Int32} {fp fl ff fo fy fr fm fs fd fq fn fc fw : Int32} {a1 a2 a3 a4 a5 a6 a7 a8 a9 a10 a11 a12 a13 a14 a15 a16 a17 a18 a19 a20 a21 a22 : Nat → Int32} (hp : post 1 ()) : wL_lawOf_375 post mc ms x0 x2 x4 x5 z z kc ks fp fl ff fo fy fr fm fs fd fq fn fc fw a1 a2 a3 a4 a5 a6 a7 a8 a9 a10 a11 a12 a13 a14 a15 a16 a17 a18 a19 a20 a21 a22 := by
  unfold wL_lawOf_375
  refine br_t rfl (mr_above ?_)
  intro r hr y1 y2 y3 y4 y5 y6 y7 y8 y9 y10 y11 y12 y13 y14 y15 y16 y17 y18 y19 y20 y21 y22 y23 y24 y25 y26 y27 y28 y29 y30 y31 y32 y33 y34 y35
  have no : ¬ (¬ x4 < 0 ∧ ¬ 3 < x4 ∧ ¬ x5 < -1 ∧ x5 < x4) → wL_lawOf_417 post mc ms x0 x2 x4 r kc ks y1 y2 y3 y4 y5 y6 y7 y8 y9 y10 y11 y12 y13 y14 y15 y16 y17 y18 y19 y20 y21 y22 y23 y24 y25 y26 y27 y28 y29 y30 y31 y32 y33 y34 y35 := by
    intro h
    have e := mr_f hr h
    subst e
    exact mr_L418 hp
  refine br_c (fun e => no (fun z => z.1 e)) (fun e1 => br_c (fun e => no (fun z => z.2.1 e)) (fun e2 => br_c (fun e => no (fun z => z.2.2.1 e)) (fun e3 => br_c (fun e => no (fun z => Int32.not_le.mpr z.2.2.2 e)) (fun e4 => ?_))))
  have e := mr_t hr ⟨e1, e2, e3, Int32.not_le.mp e4⟩
  subst e
  exact mr_L418 hp
theorem mr_small : ∀ j : Nat, j < 24 → (nI j).toInt8.toInt32 = nI j := by decide +kernel
theorem mr_L302 {post : Int32 → St0 → Prop} {x0 x1 x2 x3 x4 x5 b d s : Int32} (hS : mr_spec x0 x1 x2 b d s) (hp : post 1 ()) : wL_lawOf_302 post 23 907 x0 x1 x2 x3 x4 x5 b d s 0 0 := by
  have hb : mr_fl b (mr_fits x0 x1 x2) := by
    rcases hS with ⟨p, rfl, _⟩ | ⟨p, q, rfl, _⟩ | ⟨p, q, rfl, _⟩ | ⟨p, q, r, rfl, _⟩ | ⟨p, q, r, rfl, _⟩ | ⟨p, q, r, rfl, _⟩ | ⟨p, q, r, t, rfl, _⟩ | ⟨p, q, r, t, rfl, _⟩ | ⟨p, q, r, t, rfl, _⟩
    · exact mr_ff (fun z => p z.1)
    · exact mr_ff q
    · exact mr_ft p
    · exact mr_ft p
    · exact mr_ft p
    · exact mr_ft p
    · exact mr_ft p
    · exact mr_ft p
    · exact mr_ft p
  unfold wL_lawOf_302
  refine ⟨by omega, by omega, 22, 872, by omega, by omega, mr_init (by omega) (by omega) (fun b3 b4 h3 => mr_code (fun f b1 b2 e1 e2 => ?_) (fun f => ?_))⟩
  · have hM : mr_mem x0 x1 x2 b1 b2 := by
      obtain ⟨k, hk, e⟩ := mr_hereN f.1
      obtain ⟨j, hj, ej⟩ := mr_op f
      subst e ej
      rw [mr_small j hj, nI_clamp (by omega)] at e1
      rw [nI_clamp (by omega)] at e2
      subst e1 e2
      exact Or.inl ⟨f, k, hk, rfl, pk_us, pk_us, fun j hj => pk_un hj⟩
    refine br_t (mr_t hb f).symm (mr_run hS hM h3 ?_)
    intro m hm _ _ _ _ _ _ _ _ _ _ _ _ _ _ _ _ _ _ _ _ _ _ _ _ _ _ _ _ _ _ _ _ _
    refine br_t rfl (br_t rfl (br_f (by rw [mr_t hb f]; decide) (br_c (fun e => ?_) (fun e => ?_))))
    · have g := mr_t hm ⟨f, e⟩
      subst g
      exact mr_L375 hp
    · have g := mr_f hm (fun z => e z.2)
      subst g
      exact mr_L375 hp
  · have hM : mr_mem x0 x1 x2 (fun _ => 0) (fun _ => 0) := Or.inr ⟨f, fun _ => rfl⟩
    refine br_t (mr_f hb f).symm (mr_run hS hM h3 ?_)
    intro m hm _ _ _ _ _ _ _ _ _ _ _ _ _ _ _ _ _ _ _ _ _ _ _ _ _ _ _ _ _ _ _ _ _
    refine br_t rfl (br_t rfl (br_t (mr_f hb f) ?_))
    have g := mr_f hm (fun z => f z.1)
    subst g
    exact mr_L375 hp
theorem mr_cell {post : Int32 → Prop} {L : Nat} {xs : Nat → Int32} {u : St0} {p : Int32} (k : Nat) (hL : L ≤ 6) (hk : k < 6) (hp : p = nI k) (H : ∀ r, post r) : wpL_cellAt post L xs u p := by
  unfold wpL_cellAt
  exact pk_le L k (fun _ => H 0) (fun z => ⟨pk_in k L z hp, H _⟩) rfl hp
theorem i_vc (xs : Nat → Int32) (L : Nat) (hL : L ≤ 6) : wpL_law (fun r => r = 1) L xs := by
  unfold wpL_law
  exact mr_cell 0 hL (by omega) rfl (fun r1 => mr_cell 1 hL (by omega) rfl (fun r2 => mr_cell 2 hL (by omega) rfl (fun r3 => mr_cell 3 hL (by omega) rfl (fun r4 => mr_cell 4 hL (by omega) rfl (fun r5 => mr_cell 5 hL (by omega) rfl (fun r6 => ⟨23, 907, by omega, by omega, mr_lawOf (fun b d s hs => mr_L302 hs rfl)⟩))))))
end
