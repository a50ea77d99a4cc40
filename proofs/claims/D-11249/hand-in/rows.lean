section
/-- a place in range, as a Bool -/
def qz_in (i : Int32) (n : Nat) : Bool := decide (¬ (i < 0 ∨ n ≤ i.toNatClampNeg))
/-- a named value -/
def qz_let {α : Type} (e : α) (p : α → Bool) : Bool := p e
/-- the fuel of every loop of the runs that the law makes -/
def qz_N : Nat := 9
theorem qz_if {c : Prop} [Decidable c] {a b : Bool} {A B : Prop} (hA : a = true → A) (hB : b = true → B) : (if c then a else b) = true → (c → A) ∧ (¬ c → B) := by
  intro h
  by_cases hc : c
  · rw [if_pos hc] at h
    exact br_t hc (hA h)
  · rw [if_neg hc] at h
    exact br_f hc (hB h)
theorem qz_ifb {e : Bool} {c : Prop} {a b : Bool} {A B : Prop} (he : e = true ↔ c) (hA : a = true → A) (hB : b = true → B) : (if e = true then a else b) = true → (c → A) ∧ (¬ c → B) := by
  intro h
  by_cases hc : e = true
  · rw [if_pos hc] at h
    exact br_t (he.mp hc) (hA h)
  · rw [if_neg hc] at h
    exact br_f (fun z => hc (he.mpr z)) (hB h)
theorem qz_and {i : Int32} {n : Nat} {a : Bool} {A : Prop} (hA : a = true → A) : (qz_in i n && a) = true → vp_in i n ∧ A := by
  intro h
  have h2 := (Bool.and_eq_true _ _).mp h
  have h3 : ¬ (i < 0 ∨ n ≤ i.toNatClampNeg) := of_decide_eq_true h2.1
  exact ⟨h3, hA h2.2⟩
theorem qz_nm {α : Type} {e : α} {p : α → Bool} {P : α → Prop} (h : ∀ x, p x = true → P x) : qz_let e p = true → ∀ x, x = e → P x := by
  intro hp x hx
  rw [hx]
  exact h e hp
theorem qz_ex {W : Nat → Prop} {a : Bool} {n : Nat} (h : a = true → W n) : a = true → ∃ k, W k := fun ha => ⟨n, h ha⟩

def qm_push (post : Int32 → St2 → Bool) (u : St2) (p0 : Int32) : Bool := match u with
  | (f0_length, f0_runCount, f0_current, a1, a2, a3, a4, a5) => (if p0 < 0 then (post (- 1) (f0_length, f0_runCount, f0_current, a1, a2, a3, a4, a5)) else (if p0 ≤ 3 then (if f0_length = 48 then (post (- 2) (f0_length, f0_runCount, f0_current, a1, a2, a3, a4, a5)) else (qz_in f0_length 48 && (qz_let (upd a1 f0_length.toNatClampNeg p0) (fun a1_5 : Nat → Int32 => (qz_let (f0_length + 1) (fun f_6 : Int32 => (post f_6 (f_6, f0_runCount, 0, a1_5, a2, a3, a4, a5)))))))) else (post (- 1) (f0_length, f0_runCount, f0_current, a1, a2, a3, a4, a5))))
theorem qs_m_push {post_b : Int32 → St2 → Bool} {post : Int32 → St2 → Prop} (h_post : ∀ v0 v1, post_b v0 v1 = true → post v0 v1) {u : St2} {p0 : Int32} : qm_push post_b u p0 = true → wpX_push post u p0 := by
  obtain ⟨f0_length, f0_runCount, f0_current, a1, a2, a3, a4, a5⟩ := u
  unfold qm_push wpX_push
  exact (qz_if (h_post (- 1) (f0_length, f0_runCount, f0_current, a1, a2, a3, a4, a5)) (qz_if (qz_if (h_post (- 2) (f0_length, f0_runCount, f0_current, a1, a2, a3, a4, a5)) (qz_and (qz_nm (fun a1_5 => (qz_nm (fun f_6 => (h_post f_6 (f_6, f0_runCount, 0, a1_5, a2, a3, a4, a5)))))))) (h_post (- 1) (f0_length, f0_runCount, f0_current, a1, a2, a3, a4, a5))))
def qm_isPlace (post : Int32 → Bool) (u : St2) (p0 : Int32) : Bool := match u with
  | (f0_length, f0_runCount, f0_current, a1, a2, a3, a4, a5) => (if p0 < 0 then (post 0) else (if f0_length ≤ p0 then (post 0) else (post 1)))
theorem qs_m_isPlace {post_b : Int32 → Bool} {post : Int32 → Prop} (h_post : ∀ v0, post_b v0 = true → post v0) {u : St2} {p0 : Int32} : qm_isPlace post_b u p0 = true → wpX_isPlace post u p0 := by
  obtain ⟨f0_length, f0_runCount, f0_current, a1, a2, a3, a4, a5⟩ := u
  unfold qm_isPlace wpX_isPlace
  exact (qz_if (h_post 0) (qz_if (h_post 0) (h_post 1)))
def qf_repeat_40 (post : Int32 → St2 → Bool) (x1 : Int32) (x2 : Int32) (f0_length : Int32) (f0_runCount : Int32) (f0_current : Int32) : Nat → Int32 → (Nat → Int32) → (Nat → Int32) → (Nat → Int32) → (Nat → Int32) → (Nat → Int32) → Bool
  | 0 => fun _ _ _ _ _ _ => false
  | n + 1 => fun x3 a1 a2 a3 a4 a5 => (if x2 ≤ x3 then (qz_let (f0_length + x2) (fun f_7 : Int32 => (post f_7 (f_7, f0_runCount, 0, a1, a2, a3, a4, a5)))) else (qz_in (x1 + x3) 48 && (qz_in (f0_length + x3) 48 && (qz_let (upd a1 (f0_length + x3).toNatClampNeg (a1 (x1 + x3).toNatClampNeg)) (fun a1_10 : Nat → Int32 => (qz_let (x3 + 1) (fun x3_11 : Int32 => (qf_repeat_40 post x1 x2 f0_length f0_runCount f0_current n x3_11 a1_10 a2 a3 a4 a5))))))))
theorem qs_f_repeat_40 {post_b : Int32 → St2 → Bool} {post : Int32 → St2 → Prop} (h_post : ∀ v0 v1, post_b v0 v1 = true → post v0 v1) {x1 : Int32} {x2 : Int32} {f0_length : Int32} {f0_runCount : Int32} {f0_current : Int32} : ∀ (n : Nat) {x3 : Int32} {a1 : (Nat → Int32)} {a2 : (Nat → Int32)} {a3 : (Nat → Int32)} {a4 : (Nat → Int32)} {a5 : (Nat → Int32)}, qf_repeat_40 post_b x1 x2 f0_length f0_runCount f0_current n x3 a1 a2 a3 a4 a5 = true → wX_repeat_40 post x1 x2 f0_length f0_runCount f0_current n x3 a1 a2 a3 a4 a5 := by
  intro n
  induction n with
  | zero => intro x3 a1 a2 a3 a4 a5 h; exact absurd h Bool.false_ne_true
  | succ n ih =>
    intro x3 a1 a2 a3 a4 a5
    exact (qz_if (qz_nm (fun f_7 => (h_post f_7 (f_7, f0_runCount, 0, a1, a2, a3, a4, a5)))) (qz_and (qz_and (qz_nm (fun a1_10 => (qz_nm (fun x3_11 => ih)))))))
def qm_repeat (post : Int32 → St2 → Bool) (u : St2) (p0 : Int32) (p1 : Int32) : Bool := match u with
  | (f0_length, f0_runCount, f0_current, a1, a2, a3, a4, a5) => (qm_isPlace (fun r_1 => (if r_1 = 0 then (post (- 1) (f0_length, f0_runCount, f0_current, a1, a2, a3, a4, a5)) else (if p1 < 1 then (post (- 2) (f0_length, f0_runCount, f0_current, a1, a2, a3, a4, a5)) else (if p1 ≤ 48 then (if (f0_length + p1) ≤ 48 then (qf_repeat_40 post p0 p1 f0_length f0_runCount f0_current qz_N 0 a1 a2 a3 a4 a5) else (post (- 3) (f0_length, f0_runCount, f0_current, a1, a2, a3, a4, a5))) else (post (- 2) (f0_length, f0_runCount, f0_current, a1, a2, a3, a4, a5)))))) (f0_length, f0_runCount, f0_current, a1, a2, a3, a4, a5) p0)
theorem qs_m_repeat {post_b : Int32 → St2 → Bool} {post : Int32 → St2 → Prop} (h_post : ∀ v0 v1, post_b v0 v1 = true → post v0 v1) {u : St2} {p0 : Int32} {p1 : Int32} : qm_repeat post_b u p0 p1 = true → wpX_repeat post u p0 p1 := by
  obtain ⟨f0_length, f0_runCount, f0_current, a1, a2, a3, a4, a5⟩ := u
  unfold qm_repeat wpX_repeat
  exact (qs_m_isPlace (fun r_1 => (qz_if (h_post (- 1) (f0_length, f0_runCount, f0_current, a1, a2, a3, a4, a5)) (qz_if (h_post (- 2) (f0_length, f0_runCount, f0_current, a1, a2, a3, a4, a5)) (qz_if (qz_if (qz_ex (qs_f_repeat_40 h_post _)) (h_post (- 3) (f0_length, f0_runCount, f0_current, a1, a2, a3, a4, a5))) (h_post (- 2) (f0_length, f0_runCount, f0_current, a1, a2, a3, a4, a5)))))))
def qf_forward_2 (post : Int32 → Bool) (x1 : Int32) (x2 : Int32) (f0_length : Int32) (f0_runCount : Int32) (f0_current : Int32) (a1 : Nat → Int32) (a2 : Nat → Int32) (a3 : Nat → Int32) (a4 : Nat → Int32) (a5 : Nat → Int32) : Nat → Int32 → Bool
  | 0 => fun _ => false
  | n + 1 => fun x3 => (if f0_length ≤ (x1 + x3) then (post x3) else (if f0_length ≤ (x2 + x3) then (post x3) else (qz_in (x1 + x3) 48 && (qz_in (x2 + x3) 48 && (if (a1 (x1 + x3).toNatClampNeg) = (a1 (x2 + x3).toNatClampNeg) then (qz_let (x3 + 1) (fun x3_6 : Int32 => (qf_forward_2 post x1 x2 f0_length f0_runCount f0_current a1 a2 a3 a4 a5 n x3_6))) else (post x3))))))
theorem qs_f_forward_2 {post_b : Int32 → Bool} {post : Int32 → Prop} (h_post : ∀ v0, post_b v0 = true → post v0) {x1 : Int32} {x2 : Int32} {f0_length : Int32} {f0_runCount : Int32} {f0_current : Int32} {a1 : Nat → Int32} {a2 : Nat → Int32} {a3 : Nat → Int32} {a4 : Nat → Int32} {a5 : Nat → Int32} : ∀ (n : Nat) {x3 : Int32}, qf_forward_2 post_b x1 x2 f0_length f0_runCount f0_current a1 a2 a3 a4 a5 n x3 = true → wX_forward_2 post x1 x2 f0_length f0_runCount f0_current a1 a2 a3 a4 a5 n x3 := by
  intro n
  induction n with
  | zero => intro x3 h; exact absurd h Bool.false_ne_true
  | succ n ih =>
    intro x3
    exact (qz_if (h_post x3) (qz_if (h_post x3) (qz_and (qz_and (qz_if (qz_nm (fun x3_6 => ih)) (h_post x3))))))
def qm_forward (post : Int32 → Bool) (u : St2) (p0 : Int32) (p1 : Int32) : Bool := match u with
  | (f0_length, f0_runCount, f0_current, a1, a2, a3, a4, a5) => (qf_forward_2 post p0 p1 f0_length f0_runCount f0_current a1 a2 a3 a4 a5 qz_N 0)
theorem qs_m_forward {post_b : Int32 → Bool} {post : Int32 → Prop} (h_post : ∀ v0, post_b v0 = true → post v0) {u : St2} {p0 : Int32} {p1 : Int32} : qm_forward post_b u p0 p1 = true → wpX_forward post u p0 p1 := by
  obtain ⟨f0_length, f0_runCount, f0_current, a1, a2, a3, a4, a5⟩ := u
  unfold qm_forward wpX_forward
  exact (qz_ex (qs_f_forward_2 h_post _))
def qm_comesBefore (post : Int32 → Bool) (u : St2) (p0 : Int32) (p1 : Int32) (p2 : Int32) : Bool := match u with
  | (f0_length, f0_runCount, f0_current, a1, a2, a3, a4, a5) => (qm_forward (fun r_1 => (if (p0 + r_1) < f0_length then (if p2 = 0 then (qz_in (p0 + r_1) 48 && (qz_in (p1 + r_1) 48 && (if (a1 (p0 + r_1).toNatClampNeg) ≤ (a1 (p1 + r_1).toNatClampNeg) then (post 0) else (post 1)))) else (qz_in (p0 + r_1) 48 && (qz_in (p1 + r_1) 48 && (if (a1 (p1 + r_1).toNatClampNeg) ≤ (a1 (p0 + r_1).toNatClampNeg) then (post 0) else (post 1))))) else (post 1))) (f0_length, f0_runCount, f0_current, a1, a2, a3, a4, a5) p1 p0)
theorem qs_m_comesBefore {post_b : Int32 → Bool} {post : Int32 → Prop} (h_post : ∀ v0, post_b v0 = true → post v0) {u : St2} {p0 : Int32} {p1 : Int32} {p2 : Int32} : qm_comesBefore post_b u p0 p1 p2 = true → wpX_comesBefore post u p0 p1 p2 := by
  obtain ⟨f0_length, f0_runCount, f0_current, a1, a2, a3, a4, a5⟩ := u
  unfold qm_comesBefore wpX_comesBefore
  exact (qs_m_forward (fun r_1 => (qz_if (qz_if (qz_and (qz_and (qz_if (h_post 0) (h_post 1)))) (qz_and (qz_and (qz_if (h_post 0) (h_post 1))))) (h_post 1))))
def qf_findEndings_31 (post : St2 → Bool) (J20 : Int32 → (Nat → Int32) → (Nat → Int32) → (Nat → Int32) → (Nat → Int32) → (Nat → Int32) → Bool) (x1 : Int32) (x2 : Int32) (f0_length : Int32) (f0_runCount : Int32) (f0_current : Int32) (a1 : Nat → Int32) (a2 : Nat → Int32) (a3 : Nat → Int32) (a4 : Nat → Int32) (a5 : Nat → Int32) : Nat → Int32 → Int32 → Bool
  | 0 => fun _ _ => false
  | n + 1 => fun x3 x4 => (if 48 ≤ x4 then (qz_in x2 49 && (qz_let (upd a2 x2.toNatClampNeg x3) (fun a2_8 : Nat → Int32 => (qz_let (x2 + (- 1)) (fun x2_9 : Int32 => (J20 x2_9 a1 a2_8 a3 a4 a5)))))) else (if f0_length ≤ x3 then (qz_in x2 49 && (qz_let (upd a2 x2.toNatClampNeg x3) (fun a2_12 : Nat → Int32 => (qz_let (x2 + (- 1)) (fun x2_13 : Int32 => (J20 x2_13 a1 a2_12 a3 a4 a5)))))) else (qm_comesBefore (fun r_14 => (if r_14 = 0 then (qz_in x3 49 && (qz_let (a2 x3.toNatClampNeg) (fun x3_17 : Int32 => (qz_let (x4 + 1) (fun x4_18 : Int32 => (qf_findEndings_31 post J20 x1 x2 f0_length f0_runCount f0_current a1 a2 a3 a4 a5 n x3_17 x4_18)))))) else (qz_in x2 49 && (qz_let (upd a2 x2.toNatClampNeg x3) (fun a2_20 : Nat → Int32 => (qz_let (x2 + (- 1)) (fun x2_21 : Int32 => (J20 x2_21 a1 a2_20 a3 a4 a5)))))))) (f0_length, f0_runCount, f0_current, a1, a2, a3, a4, a5) x3 x2 x1)))
theorem qs_f_findEndings_31 {post_b : St2 → Bool} {post : St2 → Prop} (h_post : ∀ v0, post_b v0 = true → post v0) {J20_b : Int32 → (Nat → Int32) → (Nat → Int32) → (Nat → Int32) → (Nat → Int32) → (Nat → Int32) → Bool} {J20 : Int32 → (Nat → Int32) → (Nat → Int32) → (Nat → Int32) → (Nat → Int32) → (Nat → Int32) → Prop} (h_J20 : ∀ v0 v1 v2 v3 v4 v5, J20_b v0 v1 v2 v3 v4 v5 = true → J20 v0 v1 v2 v3 v4 v5) {x1 : Int32} {x2 : Int32} {f0_length : Int32} {f0_runCount : Int32} {f0_current : Int32} {a1 : Nat → Int32} {a2 : Nat → Int32} {a3 : Nat → Int32} {a4 : Nat → Int32} {a5 : Nat → Int32} : ∀ (n : Nat) {x3 : Int32} {x4 : Int32}, qf_findEndings_31 post_b J20_b x1 x2 f0_length f0_runCount f0_current a1 a2 a3 a4 a5 n x3 x4 = true → wX_findEndings_31 post J20 x1 x2 f0_length f0_runCount f0_current a1 a2 a3 a4 a5 n x3 x4 := by
  intro n
  induction n with
  | zero => intro x3 x4 h; exact absurd h Bool.false_ne_true
  | succ n ih =>
    intro x3 x4
    exact (qz_if (qz_and (qz_nm (fun a2_8 => (qz_nm (fun x2_9 => (h_J20 x2_9 a1 a2_8 a3 a4 a5)))))) (qz_if (qz_and (qz_nm (fun a2_12 => (qz_nm (fun x2_13 => (h_J20 x2_13 a1 a2_12 a3 a4 a5)))))) (qs_m_comesBefore (fun r_14 => (qz_if (qz_and (qz_nm (fun x3_17 => (qz_nm (fun x4_18 => ih))))) (qz_and (qz_nm (fun a2_20 => (qz_nm (fun x2_21 => (h_J20 x2_21 a1 a2_20 a3 a4 a5)))))))))))
def qf_findEndings_20 (post : St2 → Bool) (x1 : Int32) (f0_length : Int32) (f0_runCount : Int32) (f0_current : Int32) : Nat → Int32 → (Nat → Int32) → (Nat → Int32) → (Nat → Int32) → (Nat → Int32) → (Nat → Int32) → Bool
  | 0 => fun _ _ _ _ _ _ => false
  | n + 1 => fun x2 a1 a2 a3 a4 a5 => (if x2 < 0 then (post (f0_length, f0_runCount, f0_current, a1, a2, a3, a4, a5)) else (qz_let (x2 + 1) (fun x3_5 : Int32 => (qf_findEndings_31 post (qf_findEndings_20 post x1 f0_length f0_runCount f0_current n) x1 x2 f0_length f0_runCount f0_current a1 a2 a3 a4 a5 qz_N x3_5 0))))
theorem qs_f_findEndings_20 {post_b : St2 → Bool} {post : St2 → Prop} (h_post : ∀ v0, post_b v0 = true → post v0) {x1 : Int32} {f0_length : Int32} {f0_runCount : Int32} {f0_current : Int32} : ∀ (n : Nat) {x2 : Int32} {a1 : (Nat → Int32)} {a2 : (Nat → Int32)} {a3 : (Nat → Int32)} {a4 : (Nat → Int32)} {a5 : (Nat → Int32)}, qf_findEndings_20 post_b x1 f0_length f0_runCount f0_current n x2 a1 a2 a3 a4 a5 = true → wX_findEndings_20 post x1 f0_length f0_runCount f0_current n x2 a1 a2 a3 a4 a5 := by
  intro n
  induction n with
  | zero => intro x2 a1 a2 a3 a4 a5 h; exact absurd h Bool.false_ne_true
  | succ n ih =>
    intro x2 a1 a2 a3 a4 a5
    exact (qz_if (h_post (f0_length, f0_runCount, f0_current, a1, a2, a3, a4, a5)) (qz_nm (fun x3_5 => (qz_ex (qs_f_findEndings_31 h_post (fun _ _ _ _ _ _ => ih) _)))))
def qm_findEndings (post : St2 → Bool) (u : St2) (p0 : Int32) : Bool := match u with
  | (f0_length, f0_runCount, f0_current, a1, a2, a3, a4, a5) => (qz_in f0_length 49 && (qz_let (upd a2 f0_length.toNatClampNeg f0_length) (fun a2_2 : Nat → Int32 => (qz_let (f0_length - 1) (fun x2_3 : Int32 => (qf_findEndings_20 post p0 f0_length f0_runCount f0_current qz_N x2_3 a1 a2_2 a3 a4 a5))))))
theorem qs_m_findEndings {post_b : St2 → Bool} {post : St2 → Prop} (h_post : ∀ v0, post_b v0 = true → post v0) {u : St2} {p0 : Int32} : qm_findEndings post_b u p0 = true → wpX_findEndings post u p0 := by
  obtain ⟨f0_length, f0_runCount, f0_current, a1, a2, a3, a4, a5⟩ := u
  unfold qm_findEndings wpX_findEndings
  exact (qz_and (qz_nm (fun a2_2 => (qz_nm (fun x2_3 => (qz_ex (qs_f_findEndings_20 h_post _)))))))
def qf_backward_2 (post : Int32 → Bool) (x1 : Int32) (x2 : Int32) (f0_length : Int32) (f0_runCount : Int32) (f0_current : Int32) (a1 : Nat → Int32) (a2 : Nat → Int32) (a3 : Nat → Int32) (a4 : Nat → Int32) (a5 : Nat → Int32) : Nat → Int32 → Bool
  | 0 => fun _ => false
  | n + 1 => fun x3 => (if x1 ≤ x3 then (post x3) else (if x2 ≤ x3 then (post x3) else (qz_in ((x1 - 1) - x3) 48 && (qz_in ((x2 - 1) - x3) 48 && (if (a1 ((x1 - 1) - x3).toNatClampNeg) = (a1 ((x2 - 1) - x3).toNatClampNeg) then (qz_let (x3 + 1) (fun x3_6 : Int32 => (qf_backward_2 post x1 x2 f0_length f0_runCount f0_current a1 a2 a3 a4 a5 n x3_6))) else (post x3))))))
theorem qs_f_backward_2 {post_b : Int32 → Bool} {post : Int32 → Prop} (h_post : ∀ v0, post_b v0 = true → post v0) {x1 : Int32} {x2 : Int32} {f0_length : Int32} {f0_runCount : Int32} {f0_current : Int32} {a1 : Nat → Int32} {a2 : Nat → Int32} {a3 : Nat → Int32} {a4 : Nat → Int32} {a5 : Nat → Int32} : ∀ (n : Nat) {x3 : Int32}, qf_backward_2 post_b x1 x2 f0_length f0_runCount f0_current a1 a2 a3 a4 a5 n x3 = true → wX_backward_2 post x1 x2 f0_length f0_runCount f0_current a1 a2 a3 a4 a5 n x3 := by
  intro n
  induction n with
  | zero => intro x3 h; exact absurd h Bool.false_ne_true
  | succ n ih =>
    intro x3
    exact (qz_if (h_post x3) (qz_if (h_post x3) (qz_and (qz_and (qz_if (qz_nm (fun x3_6 => ih)) (h_post x3))))))
def qm_backward (post : Int32 → Bool) (u : St2) (p0 : Int32) (p1 : Int32) : Bool := match u with
  | (f0_length, f0_runCount, f0_current, a1, a2, a3, a4, a5) => (qf_backward_2 post p0 p1 f0_length f0_runCount f0_current a1 a2 a3 a4 a5 qz_N 0)
theorem qs_m_backward {post_b : Int32 → Bool} {post : Int32 → Prop} (h_post : ∀ v0, post_b v0 = true → post v0) {u : St2} {p0 : Int32} {p1 : Int32} : qm_backward post_b u p0 p1 = true → wpX_backward post u p0 p1 := by
  obtain ⟨f0_length, f0_runCount, f0_current, a1, a2, a3, a4, a5⟩ := u
  unfold qm_backward wpX_backward
  exact (qz_ex (qs_f_backward_2 h_post _))
def qf_insert_103 (post : St2 → Bool) (x1 : Int32) (x2 : Int32) (x3 : Int32) (x4 : Int32) (f0_length : Int32) (f0_runCount : Int32) (f0_current : Int32) : Nat → Int32 → (Nat → Int32) → (Nat → Int32) → (Nat → Int32) → (Nat → Int32) → (Nat → Int32) → Bool
  | 0 => fun _ _ _ _ _ _ => false
  | n + 1 => fun x5 a1 a2 a3 a4 a5 => (if x5 ≤ x4 then (qz_in x4 100 && (qz_let (upd a3 x4.toNatClampNeg x1) (fun a3_6 : Nat → Int32 => (qz_in x4 100 && (qz_let (upd a4 x4.toNatClampNeg x2) (fun a4_8 : Nat → Int32 => (qz_in x4 100 && (qz_let (upd a5 x4.toNatClampNeg x3) (fun a5_10 : Nat → Int32 => (qz_let (f0_runCount + 1) (fun f_11 : Int32 => (post (f0_length, f_11, f0_current, a1, a2, a3_6, a4_8, a5_10))))))))))))) else (qz_in (x5 - 1) 100 && (qz_in x5 100 && (qz_let (upd a3 x5.toNatClampNeg (a3 (x5 - 1).toNatClampNeg)) (fun a3_14 : Nat → Int32 => (qz_in (x5 - 1) 100 && (qz_in x5 100 && (qz_let (upd a4 x5.toNatClampNeg (a4 (x5 - 1).toNatClampNeg)) (fun a4_17 : Nat → Int32 => (qz_in (x5 - 1) 100 && (qz_in x5 100 && (qz_let (upd a5 x5.toNatClampNeg (a5 (x5 - 1).toNatClampNeg)) (fun a5_20 : Nat → Int32 => (qz_let (x5 + (- 1)) (fun x5_21 : Int32 => (qf_insert_103 post x1 x2 x3 x4 f0_length f0_runCount f0_current n x5_21 a1 a2 a3_14 a4_17 a5_20))))))))))))))))
theorem qs_f_insert_103 {post_b : St2 → Bool} {post : St2 → Prop} (h_post : ∀ v0, post_b v0 = true → post v0) {x1 : Int32} {x2 : Int32} {x3 : Int32} {x4 : Int32} {f0_length : Int32} {f0_runCount : Int32} {f0_current : Int32} : ∀ (n : Nat) {x5 : Int32} {a1 : (Nat → Int32)} {a2 : (Nat → Int32)} {a3 : (Nat → Int32)} {a4 : (Nat → Int32)} {a5 : (Nat → Int32)}, qf_insert_103 post_b x1 x2 x3 x4 f0_length f0_runCount f0_current n x5 a1 a2 a3 a4 a5 = true → wX_insert_103 post x1 x2 x3 x4 f0_length f0_runCount f0_current n x5 a1 a2 a3 a4 a5 := by
  intro n
  induction n with
  | zero => intro x5 a1 a2 a3 a4 a5 h; exact absurd h Bool.false_ne_true
  | succ n ih =>
    intro x5 a1 a2 a3 a4 a5
    exact (qz_if (qz_and (qz_nm (fun a3_6 => (qz_and (qz_nm (fun a4_8 => (qz_and (qz_nm (fun a5_10 => (qz_nm (fun f_11 => (h_post (f0_length, f_11, f0_current, a1, a2, a3_6, a4_8, a5_10))))))))))))) (qz_and (qz_and (qz_nm (fun a3_14 => (qz_and (qz_and (qz_nm (fun a4_17 => (qz_and (qz_and (qz_nm (fun a5_20 => (qz_nm (fun x5_21 => ih)))))))))))))))
def qf_insert_87 (post : St2 → Bool) (x1 : Int32) (x2 : Int32) (x3 : Int32) (x4 : Int32) (f0_length : Int32) (f0_runCount : Int32) (f0_current : Int32) (a1 : Nat → Int32) (a2 : Nat → Int32) (a3 : Nat → Int32) (a4 : Nat → Int32) (a5 : Nat → Int32) : Bool := (if f0_runCount = 100 then (post (f0_length, f0_runCount, f0_current, a1, a2, a3, a4, a5)) else (qf_insert_103 post x1 x2 x3 x4 f0_length f0_runCount f0_current qz_N f0_runCount a1 a2 a3 a4 a5))
theorem qs_f_insert_87 {post_b : St2 → Bool} {post : St2 → Prop} (h_post : ∀ v0, post_b v0 = true → post v0) {x1 : Int32} {x2 : Int32} {x3 : Int32} {x4 : Int32} {f0_length : Int32} {f0_runCount : Int32} {f0_current : Int32} {a1 : Nat → Int32} {a2 : Nat → Int32} {a3 : Nat → Int32} {a4 : Nat → Int32} {a5 : Nat → Int32} : qf_insert_87 post_b x1 x2 x3 x4 f0_length f0_runCount f0_current a1 a2 a3 a4 a5 = true → wX_insert_87 post x1 x2 x3 x4 f0_length f0_runCount f0_current a1 a2 a3 a4 a5 := by
  unfold qf_insert_87 wX_insert_87
  exact (qz_if (h_post (f0_length, f0_runCount, f0_current, a1, a2, a3, a4, a5)) (qz_ex (qs_f_insert_103 h_post _)))
def qf_insert_56 (post : St2 → Bool) (x1 : Int32) (x2 : Int32) (x3 : Int32) (x4 : Int32) (f0_length : Int32) (f0_runCount : Int32) (f0_current : Int32) (a1 : Nat → Int32) (a2 : Nat → Int32) (a3 : Nat → Int32) (a4 : Nat → Int32) (a5 : Nat → Int32) : Bool := (if x4 ≤ 0 then (qf_insert_87 post x1 x2 x3 x4 f0_length f0_runCount f0_current a1 a2 a3 a4 a5) else (qz_in (x4 - 1) 100 && (if (a3 (x4 - 1).toNatClampNeg) = x1 then (qz_in (x4 - 1) 100 && (if (a5 (x4 - 1).toNatClampNeg) = x3 then (post (f0_length, f0_runCount, f0_current, a1, a2, a3, a4, a5)) else (qf_insert_87 post x1 x2 x3 x4 f0_length f0_runCount f0_current a1 a2 a3 a4 a5))) else (qf_insert_87 post x1 x2 x3 x4 f0_length f0_runCount f0_current a1 a2 a3 a4 a5))))
theorem qs_f_insert_56 {post_b : St2 → Bool} {post : St2 → Prop} (h_post : ∀ v0, post_b v0 = true → post v0) {x1 : Int32} {x2 : Int32} {x3 : Int32} {x4 : Int32} {f0_length : Int32} {f0_runCount : Int32} {f0_current : Int32} {a1 : Nat → Int32} {a2 : Nat → Int32} {a3 : Nat → Int32} {a4 : Nat → Int32} {a5 : Nat → Int32} : qf_insert_56 post_b x1 x2 x3 x4 f0_length f0_runCount f0_current a1 a2 a3 a4 a5 = true → wX_insert_56 post x1 x2 x3 x4 f0_length f0_runCount f0_current a1 a2 a3 a4 a5 := by
  unfold qf_insert_56 wX_insert_56
  exact (qz_if (qs_f_insert_87 h_post) (qz_and (qz_if (qz_and (qz_if (h_post (f0_length, f0_runCount, f0_current, a1, a2, a3, a4, a5)) (qs_f_insert_87 h_post))) (qs_f_insert_87 h_post))))
def qf_insert_6 (post : St2 → Bool) (x1 : Int32) (x2 : Int32) (x3 : Int32) (f0_length : Int32) (f0_runCount : Int32) (f0_current : Int32) (a1 : Nat → Int32) (a2 : Nat → Int32) (a3 : Nat → Int32) (a4 : Nat → Int32) (a5 : Nat → Int32) : Nat → Int32 → Bool
  | 0 => fun _ => false
  | n + 1 => fun x4 => (if x4 ≤ 0 then (qf_insert_56 post x1 x2 x3 x4 f0_length f0_runCount f0_current a1 a2 a3 a4 a5) else (qz_in (x4 - 1) 100 && (if x1 < (a3 (x4 - 1).toNatClampNeg) then (qz_let (x4 + (- 1)) (fun x4_28 : Int32 => (qf_insert_6 post x1 x2 x3 f0_length f0_runCount f0_current a1 a2 a3 a4 a5 n x4_28))) else (qz_in (x4 - 1) 100 && (if (a3 (x4 - 1).toNatClampNeg) = x1 then (qz_in (x4 - 1) 100 && (if (a5 (x4 - 1).toNatClampNeg) ≤ x3 then (qf_insert_56 post x1 x2 x3 x4 f0_length f0_runCount f0_current a1 a2 a3 a4 a5) else (qz_let (x4 + (- 1)) (fun x4_33 : Int32 => (qf_insert_6 post x1 x2 x3 f0_length f0_runCount f0_current a1 a2 a3 a4 a5 n x4_33))))) else (qf_insert_56 post x1 x2 x3 x4 f0_length f0_runCount f0_current a1 a2 a3 a4 a5))))))
theorem qs_f_insert_6 {post_b : St2 → Bool} {post : St2 → Prop} (h_post : ∀ v0, post_b v0 = true → post v0) {x1 : Int32} {x2 : Int32} {x3 : Int32} {f0_length : Int32} {f0_runCount : Int32} {f0_current : Int32} {a1 : Nat → Int32} {a2 : Nat → Int32} {a3 : Nat → Int32} {a4 : Nat → Int32} {a5 : Nat → Int32} : ∀ (n : Nat) {x4 : Int32}, qf_insert_6 post_b x1 x2 x3 f0_length f0_runCount f0_current a1 a2 a3 a4 a5 n x4 = true → wX_insert_6 post x1 x2 x3 f0_length f0_runCount f0_current a1 a2 a3 a4 a5 n x4 := by
  intro n
  induction n with
  | zero => intro x4 h; exact absurd h Bool.false_ne_true
  | succ n ih =>
    intro x4
    exact (qz_if (qs_f_insert_56 h_post) (qz_and (qz_if (qz_nm (fun x4_28 => ih)) (qz_and (qz_if (qz_and (qz_if (qs_f_insert_56 h_post) (qz_nm (fun x4_33 => ih)))) (qs_f_insert_56 h_post))))))
def qm_insert (post : St2 → Bool) (u : St2) (p0 : Int32) (p1 : Int32) (p2 : Int32) : Bool := match u with
  | (f0_length, f0_runCount, f0_current, a1, a2, a3, a4, a5) => (qf_insert_6 post p0 p1 p2 f0_length f0_runCount f0_current a1 a2 a3 a4 a5 qz_N f0_runCount)
theorem qs_m_insert {post_b : St2 → Bool} {post : St2 → Prop} (h_post : ∀ v0, post_b v0 = true → post v0) {u : St2} {p0 : Int32} {p1 : Int32} {p2 : Int32} : qm_insert post_b u p0 p1 p2 = true → wpX_insert post u p0 p1 p2 := by
  obtain ⟨f0_length, f0_runCount, f0_current, a1, a2, a3, a4, a5⟩ := u
  unfold qm_insert wpX_insert
  exact (qz_ex (qs_f_insert_6 h_post _))
def qf_widen_22 (post : St2 → Bool) (x1 : Int32) (x2 : Int32) (x3 : Int32) (z0 : Int32) (f0_length : Int32) (f0_runCount : Int32) (f0_current : Int32) (a1 : Nat → Int32) (a2 : Nat → Int32) (a3 : Nat → Int32) (a4 : Nat → Int32) (a5 : Nat → Int32) : Bool := (qm_backward (fun r_3 => (if (r_3 + z0) < x3 then (post (f0_length, f0_runCount, f0_current, a1, a2, a3, a4, a5)) else (qm_insert (fun u => match u with | (f0_length_6, f0_runCount_7, f0_current_8, am531_11, am532_14, am533_17, am534_20, am535_23) => (post (f0_length_6, f0_runCount_7, f0_current_8, am531_11, am532_14, am533_17, am534_20, am535_23))) (f0_length, f0_runCount, f0_current, a1, a2, a3, a4, a5) (x1 - r_3) ((x2 + z0) - 1) x3))) (f0_length, f0_runCount, f0_current, a1, a2, a3, a4, a5) x1 x2)
theorem qs_f_widen_22 {post_b : St2 → Bool} {post : St2 → Prop} (h_post : ∀ v0, post_b v0 = true → post v0) {x1 : Int32} {x2 : Int32} {x3 : Int32} {z0 : Int32} {f0_length : Int32} {f0_runCount : Int32} {f0_current : Int32} {a1 : Nat → Int32} {a2 : Nat → Int32} {a3 : Nat → Int32} {a4 : Nat → Int32} {a5 : Nat → Int32} : qf_widen_22 post_b x1 x2 x3 z0 f0_length f0_runCount f0_current a1 a2 a3 a4 a5 = true → wX_widen_22 post x1 x2 x3 z0 f0_length f0_runCount f0_current a1 a2 a3 a4 a5 := by
  unfold qf_widen_22 wX_widen_22
  exact (qs_m_backward (fun r_3 => (qz_if (h_post (f0_length, f0_runCount, f0_current, a1, a2, a3, a4, a5)) (qs_m_insert (fun u => match u with | (f0_length_6, f0_runCount_7, f0_current_8, am531_11, am532_14, am533_17, am534_20, am535_23) => (h_post (f0_length_6, f0_runCount_7, f0_current_8, am531_11, am532_14, am533_17, am534_20, am535_23)))))))
def qm_widen (post : St2 → Bool) (u : St2) (p0 : Int32) (p1 : Int32) : Bool := match u with
  | (f0_length, f0_runCount, f0_current, a1, a2, a3, a4, a5) => (qz_let (p1 - p0) (fun x3_1 : Int32 => (if f0_length ≤ p1 then (qf_widen_22 post p0 p1 x3_1 0 f0_length f0_runCount f0_current a1 a2 a3 a4 a5) else (qm_forward (fun r_24 => (qf_widen_22 post p0 p1 x3_1 r_24 f0_length f0_runCount f0_current a1 a2 a3 a4 a5)) (f0_length, f0_runCount, f0_current, a1, a2, a3, a4, a5) p0 p1))))
theorem qs_m_widen {post_b : St2 → Bool} {post : St2 → Prop} (h_post : ∀ v0, post_b v0 = true → post v0) {u : St2} {p0 : Int32} {p1 : Int32} : qm_widen post_b u p0 p1 = true → wpX_widen post u p0 p1 := by
  obtain ⟨f0_length, f0_runCount, f0_current, a1, a2, a3, a4, a5⟩ := u
  unfold qm_widen wpX_widen
  exact (qz_nm (fun x3_1 => (qz_if (qs_f_widen_22 h_post) (qs_m_forward (fun r_24 => (qs_f_widen_22 h_post))))))
def qf_refresh_40 (post : St2 → Bool) (J20 : Int32 → Int32 → Int32 → Int32 → (Nat → Int32) → (Nat → Int32) → (Nat → Int32) → (Nat → Int32) → (Nat → Int32) → Bool) (x1 : Int32) : Nat → Int32 → Int32 → Int32 → Int32 → (Nat → Int32) → (Nat → Int32) → (Nat → Int32) → (Nat → Int32) → (Nat → Int32) → Bool
  | 0 => fun _ _ _ _ _ _ _ _ _ => false
  | n + 1 => fun x2 f0_length f0_runCount f0_current am351 am352 am353 am354 am355 => (if f0_length ≤ x2 then (qz_let (x1 + 1) (fun x1_24 : Int32 => (J20 x1_24 f0_length f0_runCount f0_current am351 am352 am353 am354 am355))) else (qz_in x2 49 && (qm_widen (fun u => match u with | (f0_length_27, f0_runCount_28, f0_current_29, am561_32, am562_35, am563_38, am564_41, am565_44) => (qz_let (x2 + 1) (fun x2_45 : Int32 => (qf_refresh_40 post J20 x1 n x2_45 f0_length_27 f0_runCount_28 f0_current_29 am561_32 am562_35 am563_38 am564_41 am565_44)))) (f0_length, f0_runCount, f0_current, am351, am352, am353, am354, am355) x2 (am352 x2.toNatClampNeg))))
theorem qs_f_refresh_40 {post_b : St2 → Bool} {post : St2 → Prop} (h_post : ∀ v0, post_b v0 = true → post v0) {J20_b : Int32 → Int32 → Int32 → Int32 → (Nat → Int32) → (Nat → Int32) → (Nat → Int32) → (Nat → Int32) → (Nat → Int32) → Bool} {J20 : Int32 → Int32 → Int32 → Int32 → (Nat → Int32) → (Nat → Int32) → (Nat → Int32) → (Nat → Int32) → (Nat → Int32) → Prop} (h_J20 : ∀ v0 v1 v2 v3 v4 v5 v6 v7 v8, J20_b v0 v1 v2 v3 v4 v5 v6 v7 v8 = true → J20 v0 v1 v2 v3 v4 v5 v6 v7 v8) {x1 : Int32} : ∀ (n : Nat) {x2 : Int32} {f0_length : Int32} {f0_runCount : Int32} {f0_current : Int32} {am351 : (Nat → Int32)} {am352 : (Nat → Int32)} {am353 : (Nat → Int32)} {am354 : (Nat → Int32)} {am355 : (Nat → Int32)}, qf_refresh_40 post_b J20_b x1 n x2 f0_length f0_runCount f0_current am351 am352 am353 am354 am355 = true → wX_refresh_40 post J20 x1 n x2 f0_length f0_runCount f0_current am351 am352 am353 am354 am355 := by
  intro n
  induction n with
  | zero => intro x2 f0_length f0_runCount f0_current am351 am352 am353 am354 am355 h; exact absurd h Bool.false_ne_true
  | succ n ih =>
    intro x2 f0_length f0_runCount f0_current am351 am352 am353 am354 am355
    exact (qz_if (qz_nm (fun x1_24 => (h_J20 x1_24 f0_length f0_runCount f0_current am351 am352 am353 am354 am355))) (qz_and (qs_m_widen (fun u => match u with | (f0_length_27, f0_runCount_28, f0_current_29, am561_32, am562_35, am563_38, am564_41, am565_44) => (qz_nm (fun x2_45 => ih))))))
def qf_refresh_35 (post : St2 → Bool) (J20 : Int32 → Int32 → Int32 → Int32 → (Nat → Int32) → (Nat → Int32) → (Nat → Int32) → (Nat → Int32) → (Nat → Int32) → Bool) (x1 : Int32) (z0 : Int32) (f0_length : Int32) (f0_runCount : Int32) (f0_current : Int32) (a1 : Nat → Int32) (a2 : Nat → Int32) (a3 : Nat → Int32) (a4 : Nat → Int32) (a5 : Nat → Int32) : Bool := (qm_findEndings (fun u => match u with | (f0_length_5, f0_runCount_6, f0_current_7, am351_10, am352_13, am353_16, am354_19, am355_22) => (qf_refresh_40 post J20 x1 qz_N 0 f0_length_5 f0_runCount_6 f0_current_7 am351_10 am352_13 am353_16 am354_19 am355_22)) (f0_length, f0_runCount, f0_current, a1, a2, a3, a4, a5) z0)
theorem qs_f_refresh_35 {post_b : St2 → Bool} {post : St2 → Prop} (h_post : ∀ v0, post_b v0 = true → post v0) {J20_b : Int32 → Int32 → Int32 → Int32 → (Nat → Int32) → (Nat → Int32) → (Nat → Int32) → (Nat → Int32) → (Nat → Int32) → Bool} {J20 : Int32 → Int32 → Int32 → Int32 → (Nat → Int32) → (Nat → Int32) → (Nat → Int32) → (Nat → Int32) → (Nat → Int32) → Prop} (h_J20 : ∀ v0 v1 v2 v3 v4 v5 v6 v7 v8, J20_b v0 v1 v2 v3 v4 v5 v6 v7 v8 = true → J20 v0 v1 v2 v3 v4 v5 v6 v7 v8) {x1 : Int32} {z0 : Int32} {f0_length : Int32} {f0_runCount : Int32} {f0_current : Int32} {a1 : Nat → Int32} {a2 : Nat → Int32} {a3 : Nat → Int32} {a4 : Nat → Int32} {a5 : Nat → Int32} : qf_refresh_35 post_b J20_b x1 z0 f0_length f0_runCount f0_current a1 a2 a3 a4 a5 = true → wX_refresh_35 post J20 x1 z0 f0_length f0_runCount f0_current a1 a2 a3 a4 a5 := by
  unfold qf_refresh_35 wX_refresh_35
  exact (qs_m_findEndings (fun u => match u with | (f0_length_5, f0_runCount_6, f0_current_7, am351_10, am352_13, am353_16, am354_19, am355_22) => (qz_ex (qs_f_refresh_40 h_post h_J20 _))))
def qf_refresh_20 (post : St2 → Bool) : Nat → Int32 → Int32 → Int32 → Int32 → (Nat → Int32) → (Nat → Int32) → (Nat → Int32) → (Nat → Int32) → (Nat → Int32) → Bool
  | 0 => fun _ _ _ _ _ _ _ _ _ => false
  | n + 1 => fun x1 f0_length f0_runCount f0_current a1 a2 a3 a4 a5 => (if 2 ≤ x1 then (post (f0_length, f0_runCount, f0_current, a1, a2, a3, a4, a5)) else (if x1 = 0 then (qf_refresh_35 post (qf_refresh_20 post n) x1 1 f0_length f0_runCount f0_current a1 a2 a3 a4 a5) else (qf_refresh_35 post (qf_refresh_20 post n) x1 0 f0_length f0_runCount f0_current a1 a2 a3 a4 a5)))
theorem qs_f_refresh_20 {post_b : St2 → Bool} {post : St2 → Prop} (h_post : ∀ v0, post_b v0 = true → post v0) : ∀ (n : Nat) {x1 : Int32} {f0_length : Int32} {f0_runCount : Int32} {f0_current : Int32} {a1 : (Nat → Int32)} {a2 : (Nat → Int32)} {a3 : (Nat → Int32)} {a4 : (Nat → Int32)} {a5 : (Nat → Int32)}, qf_refresh_20 post_b n x1 f0_length f0_runCount f0_current a1 a2 a3 a4 a5 = true → wX_refresh_20 post n x1 f0_length f0_runCount f0_current a1 a2 a3 a4 a5 := by
  intro n
  induction n with
  | zero => intro x1 f0_length f0_runCount f0_current a1 a2 a3 a4 a5 h; exact absurd h Bool.false_ne_true
  | succ n ih =>
    intro x1 f0_length f0_runCount f0_current a1 a2 a3 a4 a5
    exact (qz_if (h_post (f0_length, f0_runCount, f0_current, a1, a2, a3, a4, a5)) (qz_if (qs_f_refresh_35 h_post (fun _ _ _ _ _ _ _ _ _ => ih)) (qs_f_refresh_35 h_post (fun _ _ _ _ _ _ _ _ _ => ih))))
def qm_refresh (post : St2 → Bool) (u : St2) : Bool := match u with
  | (f0_length, f0_runCount, f0_current, a1, a2, a3, a4, a5) => (if f0_current = 0 then (qf_refresh_20 post qz_N 0 f0_length 0 1 a1 a2 a3 a4 a5) else (post (f0_length, f0_runCount, f0_current, a1, a2, a3, a4, a5)))
theorem qs_m_refresh {post_b : St2 → Bool} {post : St2 → Prop} (h_post : ∀ v0, post_b v0 = true → post v0) {u : St2} : qm_refresh post_b u = true → wpX_refresh post u := by
  obtain ⟨f0_length, f0_runCount, f0_current, a1, a2, a3, a4, a5⟩ := u
  unfold qm_refresh wpX_refresh
  exact (qz_if (qz_ex (qs_f_refresh_20 h_post _)) (h_post (f0_length, f0_runCount, f0_current, a1, a2, a3, a4, a5)))
def qm_runs (post : Int32 → St2 → Bool) (u : St2) : Bool := match u with
  | (f0_length, f0_runCount, f0_current, a1, a2, a3, a4, a5) => (qm_refresh (fun u => match u with | (f0_length_2, f0_runCount_3, f0_current_4, am11_7, am12_10, am13_13, am14_16, am15_19) => (post f0_runCount_3 (f0_length_2, f0_runCount_3, f0_current_4, am11_7, am12_10, am13_13, am14_16, am15_19))) (f0_length, f0_runCount, f0_current, a1, a2, a3, a4, a5))
theorem qs_m_runs {post_b : Int32 → St2 → Bool} {post : Int32 → St2 → Prop} (h_post : ∀ v0 v1, post_b v0 v1 = true → post v0 v1) {u : St2} : qm_runs post_b u = true → wpX_runs post u := by
  obtain ⟨f0_length, f0_runCount, f0_current, a1, a2, a3, a4, a5⟩ := u
  unfold qm_runs wpX_runs
  exact (qs_m_refresh (fun u => match u with | (f0_length_2, f0_runCount_3, f0_current_4, am11_7, am12_10, am13_13, am14_16, am15_19) => (h_post f0_runCount_3 (f0_length_2, f0_runCount_3, f0_current_4, am11_7, am12_10, am13_13, am14_16, am15_19))))
def qm_isRun (post : Int32 → Bool) (u : St2) (p0 : Int32) : Bool := match u with
  | (f0_length, f0_runCount, f0_current, a1, a2, a3, a4, a5) => (if p0 < 0 then (post 0) else (if f0_runCount ≤ p0 then (post 0) else (post 1)))
theorem qs_m_isRun {post_b : Int32 → Bool} {post : Int32 → Prop} (h_post : ∀ v0, post_b v0 = true → post v0) {u : St2} {p0 : Int32} : qm_isRun post_b u p0 = true → wpX_isRun post u p0 := by
  obtain ⟨f0_length, f0_runCount, f0_current, a1, a2, a3, a4, a5⟩ := u
  unfold qm_isRun wpX_isRun
  exact (qz_if (h_post 0) (qz_if (h_post 0) (h_post 1)))
def qm_period (post : Int32 → St2 → Bool) (u : St2) (p0 : Int32) : Bool := match u with
  | (f0_length, f0_runCount, f0_current, a1, a2, a3, a4, a5) => (qm_refresh (fun u => match u with | (f0_length_2, f0_runCount_3, f0_current_4, am11_7, am12_10, am13_13, am14_16, am15_19) => (qm_isRun (fun r_20 => (if r_20 = 0 then (post (- 1) (f0_length_2, f0_runCount_3, f0_current_4, am11_7, am12_10, am13_13, am14_16, am15_19)) else (qz_in p0 100 && (post (am15_19 p0.toNatClampNeg) (f0_length_2, f0_runCount_3, f0_current_4, am11_7, am12_10, am13_13, am14_16, am15_19))))) (f0_length_2, f0_runCount_3, f0_current_4, am11_7, am12_10, am13_13, am14_16, am15_19) p0)) (f0_length, f0_runCount, f0_current, a1, a2, a3, a4, a5))
theorem qs_m_period {post_b : Int32 → St2 → Bool} {post : Int32 → St2 → Prop} (h_post : ∀ v0 v1, post_b v0 v1 = true → post v0 v1) {u : St2} {p0 : Int32} : qm_period post_b u p0 = true → wpX_period post u p0 := by
  obtain ⟨f0_length, f0_runCount, f0_current, a1, a2, a3, a4, a5⟩ := u
  unfold qm_period wpX_period
  exact (qs_m_refresh (fun u => match u with | (f0_length_2, f0_runCount_3, f0_current_4, am11_7, am12_10, am13_13, am14_16, am15_19) => (qs_m_isRun (fun r_20 => (qz_if (h_post (- 1) (f0_length_2, f0_runCount_3, f0_current_4, am11_7, am12_10, am13_13, am14_16, am15_19)) (qz_and (h_post (am15_19 p0.toNatClampNeg) (f0_length_2, f0_runCount_3, f0_current_4, am11_7, am12_10, am13_13, am14_16, am15_19))))))))
def qf_squares_42 (post : Int32 → St2 → Bool) (J8 : Int32 → Int32 → Bool) (x2 : Int32) (x3 : Int32) (f0_length : Int32) (f0_runCount : Int32) (f0_current : Int32) (am11 : Nat → Int32) (am12 : Nat → Int32) (am13 : Nat → Int32) (am14 : Nat → Int32) (am15 : Nat → Int32) : Nat → Int32 → Int32 → Bool
  | 0 => fun _ _ => false
  | n + 1 => fun x1 x4 => (if x3 < x4 then (qz_let (x2 + 1) (fun x2_27 : Int32 => (J8 x1 x2_27))) else (qz_let (x1 + ((x3 - x4) + 1)) (fun x1_28 : Int32 => (qz_in x2 100 && (qz_let (x4 + (2 * (am15 x2.toNatClampNeg))) (fun x4_30 : Int32 => (qf_squares_42 post J8 x2 x3 f0_length f0_runCount f0_current am11 am12 am13 am14 am15 n x1_28 x4_30)))))))
theorem qs_f_squares_42 {post_b : Int32 → St2 → Bool} {post : Int32 → St2 → Prop} (h_post : ∀ v0 v1, post_b v0 v1 = true → post v0 v1) {J8_b : Int32 → Int32 → Bool} {J8 : Int32 → Int32 → Prop} (h_J8 : ∀ v0 v1, J8_b v0 v1 = true → J8 v0 v1) {x2 : Int32} {x3 : Int32} {f0_length : Int32} {f0_runCount : Int32} {f0_current : Int32} {am11 : Nat → Int32} {am12 : Nat → Int32} {am13 : Nat → Int32} {am14 : Nat → Int32} {am15 : Nat → Int32} : ∀ (n : Nat) {x1 : Int32} {x4 : Int32}, qf_squares_42 post_b J8_b x2 x3 f0_length f0_runCount f0_current am11 am12 am13 am14 am15 n x1 x4 = true → wX_squares_42 post J8 x2 x3 f0_length f0_runCount f0_current am11 am12 am13 am14 am15 n x1 x4 := by
  intro n
  induction n with
  | zero => intro x1 x4 h; exact absurd h Bool.false_ne_true
  | succ n ih =>
    intro x1 x4
    exact (qz_if (qz_nm (fun x2_27 => (h_J8 x1 x2_27))) (qz_nm (fun x1_28 => (qz_and (qz_nm (fun x4_30 => ih))))))
def qf_squares_8 (post : Int32 → St2 → Bool) (f0_length : Int32) (f0_runCount : Int32) (f0_current : Int32) (am11 : Nat → Int32) (am12 : Nat → Int32) (am13 : Nat → Int32) (am14 : Nat → Int32) (am15 : Nat → Int32) : Nat → Int32 → Int32 → Bool
  | 0 => fun _ _ => false
  | n + 1 => fun x1 x2 => (if f0_runCount ≤ x2 then (post x1 (f0_length, f0_runCount, f0_current, am11, am12, am13, am14, am15)) else (qz_in x2 100 && (qz_in x2 100 && (qz_let (((am14 x2.toNatClampNeg) - (am13 x2.toNatClampNeg)) + 1) (fun x3_23 : Int32 => (qz_in x2 100 && (qz_let (2 * (am15 x2.toNatClampNeg)) (fun x4_25 : Int32 => (qf_squares_42 post (qf_squares_8 post f0_length f0_runCount f0_current am11 am12 am13 am14 am15 n) x2 x3_23 f0_length f0_runCount f0_current am11 am12 am13 am14 am15 qz_N x1 x4_25)))))))))
theorem qs_f_squares_8 {post_b : Int32 → St2 → Bool} {post : Int32 → St2 → Prop} (h_post : ∀ v0 v1, post_b v0 v1 = true → post v0 v1) {f0_length : Int32} {f0_runCount : Int32} {f0_current : Int32} {am11 : Nat → Int32} {am12 : Nat → Int32} {am13 : Nat → Int32} {am14 : Nat → Int32} {am15 : Nat → Int32} : ∀ (n : Nat) {x1 : Int32} {x2 : Int32}, qf_squares_8 post_b f0_length f0_runCount f0_current am11 am12 am13 am14 am15 n x1 x2 = true → wX_squares_8 post f0_length f0_runCount f0_current am11 am12 am13 am14 am15 n x1 x2 := by
  intro n
  induction n with
  | zero => intro x1 x2 h; exact absurd h Bool.false_ne_true
  | succ n ih =>
    intro x1 x2
    exact (qz_if (h_post x1 (f0_length, f0_runCount, f0_current, am11, am12, am13, am14, am15)) (qz_and (qz_and (qz_nm (fun x3_23 => (qz_and (qz_nm (fun x4_25 => (qz_ex (qs_f_squares_42 h_post (fun _ _ => ih) _))))))))))
def qm_squares (post : Int32 → St2 → Bool) (u : St2) : Bool := match u with
  | (f0_length, f0_runCount, f0_current, a1, a2, a3, a4, a5) => (qm_refresh (fun u => match u with | (f0_length_2, f0_runCount_3, f0_current_4, am11_7, am12_10, am13_13, am14_16, am15_19) => (qf_squares_8 post f0_length_2 f0_runCount_3 f0_current_4 am11_7 am12_10 am13_13 am14_16 am15_19 qz_N 0 0)) (f0_length, f0_runCount, f0_current, a1, a2, a3, a4, a5))
theorem qs_m_squares {post_b : Int32 → St2 → Bool} {post : Int32 → St2 → Prop} (h_post : ∀ v0 v1, post_b v0 v1 = true → post v0 v1) {u : St2} : qm_squares post_b u = true → wpX_squares post u := by
  obtain ⟨f0_length, f0_runCount, f0_current, a1, a2, a3, a4, a5⟩ := u
  unfold qm_squares wpX_squares
  exact (qs_m_refresh (fun u => match u with | (f0_length_2, f0_runCount_3, f0_current_4, am11_7, am12_10, am13_13, am14_16, am15_19) => (qz_ex (qs_f_squares_8 h_post _))))
def qf_longest_8 (post : Int32 → St2 → Bool) (f0_length : Int32) (f0_runCount : Int32) (f0_current : Int32) (am11 : Nat → Int32) (am12 : Nat → Int32) (am13 : Nat → Int32) (am14 : Nat → Int32) (am15 : Nat → Int32) : Nat → Int32 → Int32 → Bool
  | 0 => fun _ _ => false
  | n + 1 => fun x1 x2 => (if f0_runCount ≤ x2 then (post x1 (f0_length, f0_runCount, f0_current, am11, am12, am13, am14, am15)) else (qz_in x2 100 && (qz_in x2 100 && (qz_let (((am14 x2.toNatClampNeg) - (am13 x2.toNatClampNeg)) + 1) (fun x3_23 : Int32 => (if x3_23 ≤ x1 then (qz_let (x2 + 1) (fun x2_25 : Int32 => (qf_longest_8 post f0_length f0_runCount f0_current am11 am12 am13 am14 am15 n x1 x2_25))) else (qz_let (x2 + 1) (fun x2_26 : Int32 => (qf_longest_8 post f0_length f0_runCount f0_current am11 am12 am13 am14 am15 n x3_23 x2_26)))))))))
theorem qs_f_longest_8 {post_b : Int32 → St2 → Bool} {post : Int32 → St2 → Prop} (h_post : ∀ v0 v1, post_b v0 v1 = true → post v0 v1) {f0_length : Int32} {f0_runCount : Int32} {f0_current : Int32} {am11 : Nat → Int32} {am12 : Nat → Int32} {am13 : Nat → Int32} {am14 : Nat → Int32} {am15 : Nat → Int32} : ∀ (n : Nat) {x1 : Int32} {x2 : Int32}, qf_longest_8 post_b f0_length f0_runCount f0_current am11 am12 am13 am14 am15 n x1 x2 = true → wX_longest_8 post f0_length f0_runCount f0_current am11 am12 am13 am14 am15 n x1 x2 := by
  intro n
  induction n with
  | zero => intro x1 x2 h; exact absurd h Bool.false_ne_true
  | succ n ih =>
    intro x1 x2
    exact (qz_if (h_post x1 (f0_length, f0_runCount, f0_current, am11, am12, am13, am14, am15)) (qz_and (qz_and (qz_nm (fun x3_23 => (qz_if (qz_nm (fun x2_25 => ih)) (qz_nm (fun x2_26 => ih))))))))
def qm_longest (post : Int32 → St2 → Bool) (u : St2) : Bool := match u with
  | (f0_length, f0_runCount, f0_current, a1, a2, a3, a4, a5) => (qm_refresh (fun u => match u with | (f0_length_2, f0_runCount_3, f0_current_4, am11_7, am12_10, am13_13, am14_16, am15_19) => (qf_longest_8 post f0_length_2 f0_runCount_3 f0_current_4 am11_7 am12_10 am13_13 am14_16 am15_19 qz_N 0 0)) (f0_length, f0_runCount, f0_current, a1, a2, a3, a4, a5))
theorem qs_m_longest {post_b : Int32 → St2 → Bool} {post : Int32 → St2 → Prop} (h_post : ∀ v0 v1, post_b v0 v1 = true → post v0 v1) {u : St2} : qm_longest post_b u = true → wpX_longest post u := by
  obtain ⟨f0_length, f0_runCount, f0_current, a1, a2, a3, a4, a5⟩ := u
  unfold qm_longest wpX_longest
  exact (qs_m_refresh (fun u => match u with | (f0_length_2, f0_runCount_3, f0_current_4, am11_7, am12_10, am13_13, am14_16, am15_19) => (qz_ex (qs_f_longest_8 h_post _))))
def qf_power_35 (post : Int32 → St2 → Bool) (J8 : Int32 → Int32 → Bool) (x1 : Int32) (x2 : Int32) (f0_length : Int32) (f0_runCount : Int32) (f0_current : Int32) (am11 : Nat → Int32) (am12 : Nat → Int32) (am13 : Nat → Int32) (am14 : Nat → Int32) (am15 : Nat → Int32) : Nat → Int32 → Int32 → Bool
  | 0 => fun _ _ => false
  | n + 1 => fun x3 x4 => (qz_in x2 100 && (if x4 < (am15 x2.toNatClampNeg) then (if x3 ≤ x1 then (qz_let (x2 + 1) (fun x2_27 : Int32 => (J8 x1 x2_27))) else (qz_let (x2 + 1) (fun x2_28 : Int32 => (J8 x3 x2_28)))) else (qz_let (x3 + 1) (fun x3_29 : Int32 => (qz_in x2 100 && (qz_let (x4 - (am15 x2.toNatClampNeg)) (fun x4_31 : Int32 => (qf_power_35 post J8 x1 x2 f0_length f0_runCount f0_current am11 am12 am13 am14 am15 n x3_29 x4_31))))))))
theorem qs_f_power_35 {post_b : Int32 → St2 → Bool} {post : Int32 → St2 → Prop} (h_post : ∀ v0 v1, post_b v0 v1 = true → post v0 v1) {J8_b : Int32 → Int32 → Bool} {J8 : Int32 → Int32 → Prop} (h_J8 : ∀ v0 v1, J8_b v0 v1 = true → J8 v0 v1) {x1 : Int32} {x2 : Int32} {f0_length : Int32} {f0_runCount : Int32} {f0_current : Int32} {am11 : Nat → Int32} {am12 : Nat → Int32} {am13 : Nat → Int32} {am14 : Nat → Int32} {am15 : Nat → Int32} : ∀ (n : Nat) {x3 : Int32} {x4 : Int32}, qf_power_35 post_b J8_b x1 x2 f0_length f0_runCount f0_current am11 am12 am13 am14 am15 n x3 x4 = true → wX_power_35 post J8 x1 x2 f0_length f0_runCount f0_current am11 am12 am13 am14 am15 n x3 x4 := by
  intro n
  induction n with
  | zero => intro x3 x4 h; exact absurd h Bool.false_ne_true
  | succ n ih =>
    intro x3 x4
    exact (qz_and (qz_if (qz_if (qz_nm (fun x2_27 => (h_J8 x1 x2_27))) (qz_nm (fun x2_28 => (h_J8 x3 x2_28)))) (qz_nm (fun x3_29 => (qz_and (qz_nm (fun x4_31 => ih)))))))
def qf_power_8 (post : Int32 → St2 → Bool) (f0_length : Int32) (f0_runCount : Int32) (f0_current : Int32) (am11 : Nat → Int32) (am12 : Nat → Int32) (am13 : Nat → Int32) (am14 : Nat → Int32) (am15 : Nat → Int32) : Nat → Int32 → Int32 → Bool
  | 0 => fun _ _ => false
  | n + 1 => fun x1 x2 => (if f0_runCount ≤ x2 then (post x1 (f0_length, f0_runCount, f0_current, am11, am12, am13, am14, am15)) else (qz_in x2 100 && (qz_in x2 100 && (qz_let (((am14 x2.toNatClampNeg) - (am13 x2.toNatClampNeg)) + 1) (fun x4_23 : Int32 => (qf_power_35 post (qf_power_8 post f0_length f0_runCount f0_current am11 am12 am13 am14 am15 n) x1 x2 f0_length f0_runCount f0_current am11 am12 am13 am14 am15 qz_N 0 x4_23))))))
theorem qs_f_power_8 {post_b : Int32 → St2 → Bool} {post : Int32 → St2 → Prop} (h_post : ∀ v0 v1, post_b v0 v1 = true → post v0 v1) {f0_length : Int32} {f0_runCount : Int32} {f0_current : Int32} {am11 : Nat → Int32} {am12 : Nat → Int32} {am13 : Nat → Int32} {am14 : Nat → Int32} {am15 : Nat → Int32} : ∀ (n : Nat) {x1 : Int32} {x2 : Int32}, qf_power_8 post_b f0_length f0_runCount f0_current am11 am12 am13 am14 am15 n x1 x2 = true → wX_power_8 post f0_length f0_runCount f0_current am11 am12 am13 am14 am15 n x1 x2 := by
  intro n
  induction n with
  | zero => intro x1 x2 h; exact absurd h Bool.false_ne_true
  | succ n ih =>
    intro x1 x2
    exact (qz_if (h_post x1 (f0_length, f0_runCount, f0_current, am11, am12, am13, am14, am15)) (qz_and (qz_and (qz_nm (fun x4_23 => (qz_ex (qs_f_power_35 h_post (fun _ _ => ih) _)))))))
def qm_power (post : Int32 → St2 → Bool) (u : St2) : Bool := match u with
  | (f0_length, f0_runCount, f0_current, a1, a2, a3, a4, a5) => (qm_refresh (fun u => match u with | (f0_length_2, f0_runCount_3, f0_current_4, am11_7, am12_10, am13_13, am14_16, am15_19) => (qf_power_8 post f0_length_2 f0_runCount_3 f0_current_4 am11_7 am12_10 am13_13 am14_16 am15_19 qz_N 0 0)) (f0_length, f0_runCount, f0_current, a1, a2, a3, a4, a5))
theorem qs_m_power {post_b : Int32 → St2 → Bool} {post : Int32 → St2 → Prop} (h_post : ∀ v0 v1, post_b v0 v1 = true → post v0 v1) {u : St2} : qm_power post_b u = true → wpX_power post u := by
  obtain ⟨f0_length, f0_runCount, f0_current, a1, a2, a3, a4, a5⟩ := u
  unfold qm_power wpX_power
  exact (qs_m_refresh (fun u => match u with | (f0_length_2, f0_runCount_3, f0_current_4, am11_7, am12_10, am13_13, am14_16, am15_19) => (qz_ex (qs_f_power_8 h_post _))))
def qm_common (post : Int32 → Bool) (u : St2) (p0 : Int32) (p1 : Int32) : Bool := match u with
  | (f0_length, f0_runCount, f0_current, a1, a2, a3, a4, a5) => (qm_isPlace (fun r_1 => (if r_1 = 0 then (post (- 1)) else (qm_isPlace (fun r_3 => (if r_3 = 0 then (post (- 1)) else (qm_forward (fun r_5 => (post r_5)) (f0_length, f0_runCount, f0_current, a1, a2, a3, a4, a5) p0 p1))) (f0_length, f0_runCount, f0_current, a1, a2, a3, a4, a5) p1))) (f0_length, f0_runCount, f0_current, a1, a2, a3, a4, a5) p0)
theorem qs_m_common {post_b : Int32 → Bool} {post : Int32 → Prop} (h_post : ∀ v0, post_b v0 = true → post v0) {u : St2} {p0 : Int32} {p1 : Int32} : qm_common post_b u p0 p1 = true → wpX_common post u p0 p1 := by
  obtain ⟨f0_length, f0_runCount, f0_current, a1, a2, a3, a4, a5⟩ := u
  unfold qm_common wpX_common
  exact (qs_m_isPlace (fun r_1 => (qz_if (h_post (- 1)) (qs_m_isPlace (fun r_3 => (qz_if (h_post (- 1)) (qs_m_forward (fun r_5 => (h_post r_5)))))))))
def qm_nextSmaller (post : Int32 → St2 → Bool) (u : St2) (p0 : Int32) : Bool := match u with
  | (f0_length, f0_runCount, f0_current, a1, a2, a3, a4, a5) => (qm_isPlace (fun r_1 => (if r_1 = 0 then (post (- 1) (f0_length, f0_runCount, f0_current, a1, a2, a3, a4, a5)) else (qm_findEndings (fun u => match u with | (f0_length_4, f0_runCount_5, f0_current_6, am121_9, am122_12, am123_15, am124_18, am125_21) => (qz_in p0 49 && (post (am122_12 p0.toNatClampNeg) (f0_length_4, f0_runCount_5, f0_current_6, am121_9, am122_12, am123_15, am124_18, am125_21)))) (f0_length, f0_runCount, f0_current, a1, a2, a3, a4, a5) 1))) (f0_length, f0_runCount, f0_current, a1, a2, a3, a4, a5) p0)
theorem qs_m_nextSmaller {post_b : Int32 → St2 → Bool} {post : Int32 → St2 → Prop} (h_post : ∀ v0 v1, post_b v0 v1 = true → post v0 v1) {u : St2} {p0 : Int32} : qm_nextSmaller post_b u p0 = true → wpX_nextSmaller post u p0 := by
  obtain ⟨f0_length, f0_runCount, f0_current, a1, a2, a3, a4, a5⟩ := u
  unfold qm_nextSmaller wpX_nextSmaller
  exact (qs_m_isPlace (fun r_1 => (qz_if (h_post (- 1) (f0_length, f0_runCount, f0_current, a1, a2, a3, a4, a5)) (qs_m_findEndings (fun u => match u with | (f0_length_4, f0_runCount_5, f0_current_6, am121_9, am122_12, am123_15, am124_18, am125_21) => (qz_and (h_post (am122_12 p0.toNatClampNeg) (f0_length_4, f0_runCount_5, f0_current_6, am121_9, am122_12, am123_15, am124_18, am125_21))))))))
end
section
def ql_325 (post : Int32 → St0 → Bool) (z0 : Int32) (z1 : Int32) : Bool := (if z1 = z0 then (post 1 ()) else (post 0 ()))
theorem qs_l_325 {post_b : Int32 → St0 → Bool} {post : Int32 → St0 → Prop} (h_post : ∀ v0 v1, post_b v0 v1 = true → post v0 v1) {mc : Nat} {ms : Nat} {z0 : Int32} {z1 : Int32} {kc : Nat} {ks : Nat} : ql_325 post_b z0 z1 = true → wL_lawOf_325 post mc ms z0 z1 kc ks := by
  unfold ql_325 wL_lawOf_325
  exact (qz_if (h_post 1 ()) (h_post 0 ()))
def ql_324 (post : Int32 → St0 → Bool) (z0 : Int32) : Bool := (ql_325 post 1 z0)
theorem qs_l_324 {post_b : Int32 → St0 → Bool} {post : Int32 → St0 → Prop} (h_post : ∀ v0 v1, post_b v0 v1 = true → post v0 v1) {mc : Nat} {ms : Nat} {z0 : Int32} {kc : Nat} {ks : Nat} : ql_324 post_b z0 = true → wL_lawOf_324 post mc ms z0 kc ks := by
  unfold ql_324 wL_lawOf_324
  exact (qs_l_325 h_post)
def ql_291 (post : Int32 → St0 → Bool) (e0 : Bool) (l0 : Bool) (x5 : Int32) (x6 : Int32) (z0 : Int32) (z1 : Int32) (fm0_length : Int32) (fm0_runCount : Int32) (fm0_current : Int32) (am2441 : Nat → Int32) (am2442 : Nat → Int32) (am2443 : Nat → Int32) (am2444 : Nat → Int32) (am2445 : Nat → Int32) : Bool := (if z1 = z0 then (qm_nextSmaller (fun r_207 u => match u with | (fm0_length_208, fm0_runCount_209, fm0_current_210, am2981_213, am2982_216, am2983_219, am2984_222, am2985_225) => (if x5 = 0 then (ql_325 post (- 1) r_207) else (if x6 = 0 then (ql_324 post r_207) else (if l0 = true then (ql_324 post r_207) else (ql_325 post 2 r_207))))) (fm0_length, fm0_runCount, fm0_current, am2441, am2442, am2443, am2444, am2445) 0) else (post 0 ()))
theorem qs_l_291 {post_b : Int32 → St0 → Bool} {post : Int32 → St0 → Prop} (h_post : ∀ v0 v1, post_b v0 v1 = true → post v0 v1) {mc : Nat} {ms : Nat} {e0 : Bool} {x0 : Int32} {l0 : Bool} {x1 : Int32} {x5 : Int32} {x6 : Int32} {z0 : Int32} {z1 : Int32} {kc : Nat} {ks : Nat} {fm0_length : Int32} {fm0_runCount : Int32} {fm0_current : Int32} {am2441 : Nat → Int32} {am2442 : Nat → Int32} {am2443 : Nat → Int32} {am2444 : Nat → Int32} {am2445 : Nat → Int32} (he : e0 = true ↔ x0 = x1) (hl : l0 = true ↔ x1 ≤ x0) : ql_291 post_b e0 l0 x5 x6 z0 z1 fm0_length fm0_runCount fm0_current am2441 am2442 am2443 am2444 am2445 = true → wL_lawOf_291 post mc ms x0 x1 x5 x6 z0 z1 kc ks fm0_length fm0_runCount fm0_current am2441 am2442 am2443 am2444 am2445 := by
  unfold ql_291 wL_lawOf_291
  exact (qz_if (qs_m_nextSmaller (fun r_207 u => match u with | (fm0_length_208, fm0_runCount_209, fm0_current_210, am2981_213, am2982_216, am2983_219, am2984_222, am2985_225) => (qz_if (qs_l_325 h_post) (qz_if (qs_l_324 h_post) (qz_ifb hl (qs_l_324 h_post) (qs_l_325 h_post)))))) (h_post 0 ()))
def ql_258 (post : Int32 → St0 → Bool) (e0 : Bool) (l0 : Bool) (x5 : Int32) (x6 : Int32) (z0 : Int32) (z1 : Int32) (fm0_length : Int32) (fm0_runCount : Int32) (fm0_current : Int32) (am2441 : Nat → Int32) (am2442 : Nat → Int32) (am2443 : Nat → Int32) (am2444 : Nat → Int32) (am2445 : Nat → Int32) : Bool := (if z1 = z0 then (qm_common (fun r_203 => (if x5 = 0 then (ql_291 post e0 l0 x5 x6 (- 1) r_203 fm0_length fm0_runCount fm0_current am2441 am2442 am2443 am2444 am2445) else (if x6 = 0 then (ql_291 post e0 l0 x5 x6 (x5 - 1) r_203 fm0_length fm0_runCount fm0_current am2441 am2442 am2443 am2444 am2445) else (ql_291 post e0 l0 x5 x6 0 r_203 fm0_length fm0_runCount fm0_current am2441 am2442 am2443 am2444 am2445)))) (fm0_length, fm0_runCount, fm0_current, am2441, am2442, am2443, am2444, am2445) 0 1) else (post 0 ()))
theorem qs_l_258 {post_b : Int32 → St0 → Bool} {post : Int32 → St0 → Prop} (h_post : ∀ v0 v1, post_b v0 v1 = true → post v0 v1) {mc : Nat} {ms : Nat} {e0 : Bool} {x0 : Int32} {l0 : Bool} {x1 : Int32} {x5 : Int32} {x6 : Int32} {z0 : Int32} {z1 : Int32} {kc : Nat} {ks : Nat} {fm0_length : Int32} {fm0_runCount : Int32} {fm0_current : Int32} {am2441 : Nat → Int32} {am2442 : Nat → Int32} {am2443 : Nat → Int32} {am2444 : Nat → Int32} {am2445 : Nat → Int32} (he : e0 = true ↔ x0 = x1) (hl : l0 = true ↔ x1 ≤ x0) : ql_258 post_b e0 l0 x5 x6 z0 z1 fm0_length fm0_runCount fm0_current am2441 am2442 am2443 am2444 am2445 = true → wL_lawOf_258 post mc ms x0 x1 x5 x6 z0 z1 kc ks fm0_length fm0_runCount fm0_current am2441 am2442 am2443 am2444 am2445 := by
  unfold ql_258 wL_lawOf_258
  exact (qz_if (qs_m_common (fun r_203 => (qz_if (qs_l_291 h_post he hl) (qz_if (qs_l_291 h_post he hl) (qs_l_291 h_post he hl))))) (h_post 0 ()))
def ql_229 (post : Int32 → St0 → Bool) (e0 : Bool) (l0 : Bool) (x5 : Int32) (x6 : Int32) (z0 : Int32) (z1 : Int32) (fm0_length : Int32) (fm0_runCount : Int32) (fm0_current : Int32) (am1971 : Nat → Int32) (am1972 : Nat → Int32) (am1973 : Nat → Int32) (am1974 : Nat → Int32) (am1975 : Nat → Int32) : Bool := (if z1 = z0 then (qm_longest (fun r_162 u => match u with | (fm0_length_163, fm0_runCount_164, fm0_current_165, am2351_168, am2352_171, am2353_174, am2354_177, am2355_180) => (if r_162 = x5 then (qm_power (fun r_182 u => match u with | (fm0_length_183, fm0_runCount_184, fm0_current_185, am2441_188, am2442_191, am2443_194, am2444_197, am2445_200) => (if x6 = 0 then (ql_258 post e0 l0 x5 x6 x5 r_182 fm0_length_183 fm0_runCount_184 fm0_current_185 am2441_188 am2442_191 am2443_194 am2444_197 am2445_200) else (ql_258 post e0 l0 x5 x6 2 r_182 fm0_length_183 fm0_runCount_184 fm0_current_185 am2441_188 am2442_191 am2443_194 am2444_197 am2445_200))) (fm0_length_163, fm0_runCount_164, fm0_current_165, am2351_168, am2352_171, am2353_174, am2354_177, am2355_180)) else (post 0 ()))) (fm0_length, fm0_runCount, fm0_current, am1971, am1972, am1973, am1974, am1975)) else (post 0 ()))
theorem qs_l_229 {post_b : Int32 → St0 → Bool} {post : Int32 → St0 → Prop} (h_post : ∀ v0 v1, post_b v0 v1 = true → post v0 v1) {mc : Nat} {ms : Nat} {e0 : Bool} {x0 : Int32} {l0 : Bool} {x1 : Int32} {x5 : Int32} {x6 : Int32} {z0 : Int32} {z1 : Int32} {kc : Nat} {ks : Nat} {fm0_length : Int32} {fm0_runCount : Int32} {fm0_current : Int32} {am1971 : Nat → Int32} {am1972 : Nat → Int32} {am1973 : Nat → Int32} {am1974 : Nat → Int32} {am1975 : Nat → Int32} (he : e0 = true ↔ x0 = x1) (hl : l0 = true ↔ x1 ≤ x0) : ql_229 post_b e0 l0 x5 x6 z0 z1 fm0_length fm0_runCount fm0_current am1971 am1972 am1973 am1974 am1975 = true → wL_lawOf_229 post mc ms x0 x1 x5 x6 z0 z1 kc ks fm0_length fm0_runCount fm0_current am1971 am1972 am1973 am1974 am1975 := by
  unfold ql_229 wL_lawOf_229
  exact (qz_if (qs_m_longest (fun r_162 u => match u with | (fm0_length_163, fm0_runCount_164, fm0_current_165, am2351_168, am2352_171, am2353_174, am2354_177, am2355_180) => (qz_if (qs_m_power (fun r_182 u => match u with | (fm0_length_183, fm0_runCount_184, fm0_current_185, am2441_188, am2442_191, am2443_194, am2444_197, am2445_200) => (qz_if (qs_l_258 h_post he hl) (qs_l_258 h_post he hl)))) (h_post 0 ())))) (h_post 0 ()))
def ql_191 (post : Int32 → St0 → Bool) (e0 : Bool) (l0 : Bool) (x5 : Int32) (x6 : Int32) (z0 : Int32) (z1 : Int32) (fm0_length : Int32) (fm0_runCount : Int32) (fm0_current : Int32) (am1691 : Nat → Int32) (am1692 : Nat → Int32) (am1693 : Nat → Int32) (am1694 : Nat → Int32) (am1695 : Nat → Int32) : Bool := (if z1 = z0 then (qm_squares (fun r_139 u => match u with | (fm0_length_140, fm0_runCount_141, fm0_current_142, am1971_145, am1972_148, am1973_151, am1974_154, am1975_157) => (if x5 = 0 then (ql_229 post e0 l0 x5 x6 0 r_139 fm0_length_140 fm0_runCount_141 fm0_current_142 am1971_145 am1972_148 am1973_151 am1974_154 am1975_157) else (if x6 = 0 then (if x5 = 4 then (ql_229 post e0 l0 x5 x6 4 r_139 fm0_length_140 fm0_runCount_141 fm0_current_142 am1971_145 am1972_148 am1973_151 am1974_154 am1975_157) else (ql_229 post e0 l0 x5 x6 2 r_139 fm0_length_140 fm0_runCount_141 fm0_current_142 am1971_145 am1972_148 am1973_151 am1974_154 am1975_157)) else (ql_229 post e0 l0 x5 x6 1 r_139 fm0_length_140 fm0_runCount_141 fm0_current_142 am1971_145 am1972_148 am1973_151 am1974_154 am1975_157)))) (fm0_length, fm0_runCount, fm0_current, am1691, am1692, am1693, am1694, am1695)) else (post 0 ()))
theorem qs_l_191 {post_b : Int32 → St0 → Bool} {post : Int32 → St0 → Prop} (h_post : ∀ v0 v1, post_b v0 v1 = true → post v0 v1) {mc : Nat} {ms : Nat} {e0 : Bool} {x0 : Int32} {l0 : Bool} {x1 : Int32} {x5 : Int32} {x6 : Int32} {z0 : Int32} {z1 : Int32} {kc : Nat} {ks : Nat} {fm0_length : Int32} {fm0_runCount : Int32} {fm0_current : Int32} {am1691 : Nat → Int32} {am1692 : Nat → Int32} {am1693 : Nat → Int32} {am1694 : Nat → Int32} {am1695 : Nat → Int32} (he : e0 = true ↔ x0 = x1) (hl : l0 = true ↔ x1 ≤ x0) : ql_191 post_b e0 l0 x5 x6 z0 z1 fm0_length fm0_runCount fm0_current am1691 am1692 am1693 am1694 am1695 = true → wL_lawOf_191 post mc ms x0 x1 x5 x6 z0 z1 kc ks fm0_length fm0_runCount fm0_current am1691 am1692 am1693 am1694 am1695 := by
  unfold ql_191 wL_lawOf_191
  exact (qz_if (qs_m_squares (fun r_139 u => match u with | (fm0_length_140, fm0_runCount_141, fm0_current_142, am1971_145, am1972_148, am1973_151, am1974_154, am1975_157) => (qz_if (qs_l_229 h_post he hl) (qz_if (qz_if (qs_l_229 h_post he hl) (qs_l_229 h_post he hl)) (qs_l_229 h_post he hl))))) (h_post 0 ()))
def ql_162 (post : Int32 → St0 → Bool) (e0 : Bool) (l0 : Bool) (x5 : Int32) (x6 : Int32) (z0 : Int32) (z1 : Int32) (fm0_length : Int32) (fm0_runCount : Int32) (fm0_current : Int32) (am1491 : Nat → Int32) (am1492 : Nat → Int32) (am1493 : Nat → Int32) (am1494 : Nat → Int32) (am1495 : Nat → Int32) : Bool := (if z1 = z0 then (qm_period (fun r_117 u => match u with | (fm0_length_118, fm0_runCount_119, fm0_current_120, am1691_123, am1692_126, am1693_129, am1694_132, am1695_135) => (if x5 = 0 then (ql_191 post e0 l0 x5 x6 (- 1) r_117 fm0_length_118 fm0_runCount_119 fm0_current_120 am1691_123 am1692_126 am1693_129 am1694_132 am1695_135) else (if x6 = 0 then (ql_191 post e0 l0 x5 x6 1 r_117 fm0_length_118 fm0_runCount_119 fm0_current_120 am1691_123 am1692_126 am1693_129 am1694_132 am1695_135) else (ql_191 post e0 l0 x5 x6 2 r_117 fm0_length_118 fm0_runCount_119 fm0_current_120 am1691_123 am1692_126 am1693_129 am1694_132 am1695_135)))) (fm0_length, fm0_runCount, fm0_current, am1491, am1492, am1493, am1494, am1495) 0) else (post 0 ()))
theorem qs_l_162 {post_b : Int32 → St0 → Bool} {post : Int32 → St0 → Prop} (h_post : ∀ v0 v1, post_b v0 v1 = true → post v0 v1) {mc : Nat} {ms : Nat} {e0 : Bool} {x0 : Int32} {l0 : Bool} {x1 : Int32} {x5 : Int32} {x6 : Int32} {z0 : Int32} {z1 : Int32} {kc : Nat} {ks : Nat} {fm0_length : Int32} {fm0_runCount : Int32} {fm0_current : Int32} {am1491 : Nat → Int32} {am1492 : Nat → Int32} {am1493 : Nat → Int32} {am1494 : Nat → Int32} {am1495 : Nat → Int32} (he : e0 = true ↔ x0 = x1) (hl : l0 = true ↔ x1 ≤ x0) : ql_162 post_b e0 l0 x5 x6 z0 z1 fm0_length fm0_runCount fm0_current am1491 am1492 am1493 am1494 am1495 = true → wL_lawOf_162 post mc ms x0 x1 x5 x6 z0 z1 kc ks fm0_length fm0_runCount fm0_current am1491 am1492 am1493 am1494 am1495 := by
  unfold ql_162 wL_lawOf_162
  exact (qz_if (qs_m_period (fun r_117 u => match u with | (fm0_length_118, fm0_runCount_119, fm0_current_120, am1691_123, am1692_126, am1693_129, am1694_132, am1695_135) => (qz_if (qs_l_191 h_post he hl) (qz_if (qs_l_191 h_post he hl) (qs_l_191 h_post he hl))))) (h_post 0 ()))
def ql_146 (post : Int32 → St0 → Bool) (e0 : Bool) (l0 : Bool) (x5 : Int32) (z0 : Int32) (fm0_length : Int32) (fm0_runCount : Int32) (fm0_current : Int32) (am1011 : Nat → Int32) (am1012 : Nat → Int32) (am1013 : Nat → Int32) (am1014 : Nat → Int32) (am1015 : Nat → Int32) : Bool := (qm_runs (fun r_96 u => match u with | (fm0_length_97, fm0_runCount_98, fm0_current_99, am1491_102, am1492_105, am1493_108, am1494_111, am1495_114) => (if x5 ≤ 0 then (ql_162 post e0 l0 x5 z0 0 r_96 fm0_length_97 fm0_runCount_98 fm0_current_99 am1491_102 am1492_105 am1493_108 am1494_111 am1495_114) else (ql_162 post e0 l0 x5 z0 1 r_96 fm0_length_97 fm0_runCount_98 fm0_current_99 am1491_102 am1492_105 am1493_108 am1494_111 am1495_114))) (fm0_length, fm0_runCount, fm0_current, am1011, am1012, am1013, am1014, am1015))
theorem qs_l_146 {post_b : Int32 → St0 → Bool} {post : Int32 → St0 → Prop} (h_post : ∀ v0 v1, post_b v0 v1 = true → post v0 v1) {mc : Nat} {ms : Nat} {e0 : Bool} {x0 : Int32} {l0 : Bool} {x1 : Int32} {x5 : Int32} {z0 : Int32} {kc : Nat} {ks : Nat} {fm0_length : Int32} {fm0_runCount : Int32} {fm0_current : Int32} {am1011 : Nat → Int32} {am1012 : Nat → Int32} {am1013 : Nat → Int32} {am1014 : Nat → Int32} {am1015 : Nat → Int32} (he : e0 = true ↔ x0 = x1) (hl : l0 = true ↔ x1 ≤ x0) : ql_146 post_b e0 l0 x5 z0 fm0_length fm0_runCount fm0_current am1011 am1012 am1013 am1014 am1015 = true → wL_lawOf_146 post mc ms x0 x1 x5 z0 kc ks fm0_length fm0_runCount fm0_current am1011 am1012 am1013 am1014 am1015 := by
  unfold ql_146 wL_lawOf_146
  exact (qs_m_runs (fun r_96 u => match u with | (fm0_length_97, fm0_runCount_98, fm0_current_99, am1491_102, am1492_105, am1493_108, am1494_111, am1495_114) => (qz_if (qs_l_162 h_post he hl) (qs_l_162 h_post he hl))))
def ql_145 (post : Int32 → St0 → Bool) (e0 : Bool) (l0 : Bool) (x5 : Int32) (fm0_length : Int32) (fm0_runCount : Int32) (fm0_current : Int32) (am1011 : Nat → Int32) (am1012 : Nat → Int32) (am1013 : Nat → Int32) (am1014 : Nat → Int32) (am1015 : Nat → Int32) : Bool := (ql_146 post e0 l0 x5 0 fm0_length fm0_runCount fm0_current am1011 am1012 am1013 am1014 am1015)
theorem qs_l_145 {post_b : Int32 → St0 → Bool} {post : Int32 → St0 → Prop} (h_post : ∀ v0 v1, post_b v0 v1 = true → post v0 v1) {mc : Nat} {ms : Nat} {e0 : Bool} {x0 : Int32} {l0 : Bool} {x1 : Int32} {x5 : Int32} {kc : Nat} {ks : Nat} {fm0_length : Int32} {fm0_runCount : Int32} {fm0_current : Int32} {am1011 : Nat → Int32} {am1012 : Nat → Int32} {am1013 : Nat → Int32} {am1014 : Nat → Int32} {am1015 : Nat → Int32} (he : e0 = true ↔ x0 = x1) (hl : l0 = true ↔ x1 ≤ x0) : ql_145 post_b e0 l0 x5 fm0_length fm0_runCount fm0_current am1011 am1012 am1013 am1014 am1015 = true → wL_lawOf_145 post mc ms x0 x1 x5 kc ks fm0_length fm0_runCount fm0_current am1011 am1012 am1013 am1014 am1015 := by
  unfold ql_145 wL_lawOf_145
  exact (qs_l_146 h_post he hl)
def ql_130 (post : Int32 → St0 → Bool) (e0 : Bool) (l0 : Bool) (x5 : Int32) (fm0_length : Int32) (fm0_runCount : Int32) (fm0_current : Int32) (am1011 : Nat → Int32) (am1012 : Nat → Int32) (am1013 : Nat → Int32) (am1014 : Nat → Int32) (am1015 : Nat → Int32) : Bool := (if x5 = 4 then (if e0 = true then (ql_145 post e0 l0 x5 fm0_length fm0_runCount fm0_current am1011 am1012 am1013 am1014 am1015) else (ql_146 post e0 l0 x5 1 fm0_length fm0_runCount fm0_current am1011 am1012 am1013 am1014 am1015)) else (ql_145 post e0 l0 x5 fm0_length fm0_runCount fm0_current am1011 am1012 am1013 am1014 am1015))
theorem qs_l_130 {post_b : Int32 → St0 → Bool} {post : Int32 → St0 → Prop} (h_post : ∀ v0 v1, post_b v0 v1 = true → post v0 v1) {mc : Nat} {ms : Nat} {e0 : Bool} {x0 : Int32} {l0 : Bool} {x1 : Int32} {x5 : Int32} {kc : Nat} {ks : Nat} {fm0_length : Int32} {fm0_runCount : Int32} {fm0_current : Int32} {am1011 : Nat → Int32} {am1012 : Nat → Int32} {am1013 : Nat → Int32} {am1014 : Nat → Int32} {am1015 : Nat → Int32} (he : e0 = true ↔ x0 = x1) (hl : l0 = true ↔ x1 ≤ x0) : ql_130 post_b e0 l0 x5 fm0_length fm0_runCount fm0_current am1011 am1012 am1013 am1014 am1015 = true → wL_lawOf_130 post mc ms x0 x1 x5 kc ks fm0_length fm0_runCount fm0_current am1011 am1012 am1013 am1014 am1015 := by
  unfold ql_130 wL_lawOf_130
  exact (qz_if (qz_ifb he (qs_l_145 h_post he hl) (qs_l_146 h_post he hl)) (qs_l_145 h_post he hl))
def ql_117 (post : Int32 → St0 → Bool) (e0 : Bool) (l0 : Bool) (x5 : Int32) (z0 : Int32) (z1 : Int32) (fm0_length : Int32) (fm0_runCount : Int32) (fm0_current : Int32) (am1011 : Nat → Int32) (am1012 : Nat → Int32) (am1013 : Nat → Int32) (am1014 : Nat → Int32) (am1015 : Nat → Int32) : Bool := (if z1 = z0 then (if x5 ≤ 0 then (ql_130 post e0 l0 x5 fm0_length fm0_runCount fm0_current am1011 am1012 am1013 am1014 am1015) else (qz_let (x5 + 2) (fun x5_231 : Int32 => (ql_130 post e0 l0 x5_231 fm0_length fm0_runCount fm0_current am1011 am1012 am1013 am1014 am1015)))) else (post 0 ()))
theorem qs_l_117 {post_b : Int32 → St0 → Bool} {post : Int32 → St0 → Prop} (h_post : ∀ v0 v1, post_b v0 v1 = true → post v0 v1) {mc : Nat} {ms : Nat} {e0 : Bool} {x0 : Int32} {l0 : Bool} {x1 : Int32} {x5 : Int32} {z0 : Int32} {z1 : Int32} {kc : Nat} {ks : Nat} {fm0_length : Int32} {fm0_runCount : Int32} {fm0_current : Int32} {am1011 : Nat → Int32} {am1012 : Nat → Int32} {am1013 : Nat → Int32} {am1014 : Nat → Int32} {am1015 : Nat → Int32} (he : e0 = true ↔ x0 = x1) (hl : l0 = true ↔ x1 ≤ x0) : ql_117 post_b e0 l0 x5 z0 z1 fm0_length fm0_runCount fm0_current am1011 am1012 am1013 am1014 am1015 = true → wL_lawOf_117 post mc ms x0 x1 x5 z0 z1 kc ks fm0_length fm0_runCount fm0_current am1011 am1012 am1013 am1014 am1015 := by
  unfold ql_117 wL_lawOf_117
  exact (qz_if (qz_if (qs_l_130 h_post he hl) (qz_nm (fun x5_231 => (qs_l_130 h_post he hl)))) (h_post 0 ()))
def ql_93 (post : Int32 → St0 → Bool) (e0 : Bool) (l0 : Bool) (x5 : Int32) (z0 : Int32) (z1 : Int32) (fm0_length : Int32) (fm0_runCount : Int32) (fm0_current : Int32) (am791 : Nat → Int32) (am792 : Nat → Int32) (am793 : Nat → Int32) (am794 : Nat → Int32) (am795 : Nat → Int32) : Bool := (if z1 = z0 then (qm_repeat (fun r_73 u => match u with | (fm0_length_74, fm0_runCount_75, fm0_current_76, am1011_79, am1012_82, am1013_85, am1014_88, am1015_91) => (if x5 ≤ 0 then (ql_117 post e0 l0 x5 (- 1) r_73 fm0_length_74 fm0_runCount_75 fm0_current_76 am1011_79 am1012_82 am1013_85 am1014_88 am1015_91) else (ql_117 post e0 l0 x5 (x5 + 2) r_73 fm0_length_74 fm0_runCount_75 fm0_current_76 am1011_79 am1012_82 am1013_85 am1014_88 am1015_91))) (fm0_length, fm0_runCount, fm0_current, am791, am792, am793, am794, am795) 0 2) else (post 0 ()))
theorem qs_l_93 {post_b : Int32 → St0 → Bool} {post : Int32 → St0 → Prop} (h_post : ∀ v0 v1, post_b v0 v1 = true → post v0 v1) {mc : Nat} {ms : Nat} {e0 : Bool} {x0 : Int32} {l0 : Bool} {x1 : Int32} {x5 : Int32} {z0 : Int32} {z1 : Int32} {kc : Nat} {ks : Nat} {fm0_length : Int32} {fm0_runCount : Int32} {fm0_current : Int32} {am791 : Nat → Int32} {am792 : Nat → Int32} {am793 : Nat → Int32} {am794 : Nat → Int32} {am795 : Nat → Int32} (he : e0 = true ↔ x0 = x1) (hl : l0 = true ↔ x1 ≤ x0) : ql_93 post_b e0 l0 x5 z0 z1 fm0_length fm0_runCount fm0_current am791 am792 am793 am794 am795 = true → wL_lawOf_93 post mc ms x0 x1 x5 z0 z1 kc ks fm0_length fm0_runCount fm0_current am791 am792 am793 am794 am795 := by
  unfold ql_93 wL_lawOf_93
  exact (qz_if (qs_m_repeat (fun r_73 u => match u with | (fm0_length_74, fm0_runCount_75, fm0_current_76, am1011_79, am1012_82, am1013_85, am1014_88, am1015_91) => (qz_if (qs_l_117 h_post he hl) (qs_l_117 h_post he hl)))) (h_post 0 ()))
end
section
/-- an array as it is made -/
def qt_Z : Nat → Int32 := fun _ => 0
/-- what the law's answer must be -/
def qt_p : Int32 → St0 → Bool := fun r _ => decide (r = 1)
/-- the law's tail over a text, the two comparisons of x and y as given -/
def qt_run (e l : Bool) (n z r : Int32) (t : Nat → Int32) : Bool := ql_93 qt_p e l n z r n 0 0 t qt_Z qt_Z qt_Z qt_Z
set_option maxRecDepth 100000 in
theorem qt_k0 : ∀ e l : Bool, qt_run e l 0 (-1) (-1) qt_Z = true := by decide +kernel
set_option maxRecDepth 100000 in
theorem qt_k1 : ∀ (a : Fin 4) (e l : Bool), qt_run e l 1 (-1) (-1) (upd qt_Z 0 (nI a.val)) = true := by decide +kernel
set_option maxRecDepth 100000 in
theorem qt_k2 : ∀ (b : Fin 4) (e l : Bool), qt_run e l 1 1 1 (upd qt_Z 0 (nI b.val)) = true := by decide +kernel
set_option maxRecDepth 100000 in
theorem qt_k3 : ∀ (a b : Fin 4), qt_run (decide (nI a.val = nI b.val)) (decide (nI b.val ≤ nI a.val)) 2 2 2 (upd (upd qt_Z 0 (nI a.val)) 1 (nI b.val)) = true := by decide +kernel
end
section
/-- a symbol that push takes -/
def qt_v (x : Int32) : Prop := ¬ x < 0 ∧ x ≤ 3
theorem qt_num {x : Int32} (h : qt_v x) : ∃ a : Fin 4, x = nI a.val := by
  obtain ⟨j, hj, e⟩ := nI_of2 (M := 3) (n := 3) (by decide) h.1 h.2
  exact ⟨⟨j, by omega⟩, e⟩
theorem qt_bad {post : Int32 → St2 → Prop} {u : St2} {x : Int32} (h : ¬ qt_v x) (hp : post (-1) u) : wpX_push post u x := by
  obtain ⟨f0, f1, f2, a1, a2, a3, a4, a5⟩ := u
  unfold wpX_push
  exact br_c (fun _ => hp) (fun g => br_f (fun g2 => h ⟨g, g2⟩) hp)
theorem qt_good0 {post : Int32 → St2 → Prop} {f1 f2 x : Int32} {a1 a2 a3 a4 a5 : Nat → Int32} (h : qt_v x) (hp : post 1 (1, f1, 0, upd a1 0 x, a2, a3, a4, a5)) : wpX_push post (0, f1, f2, a1, a2, a3, a4, a5) x := by
  unfold wpX_push
  exact br_f h.1 (br_t h.2 (br_f (by decide) ⟨pk_in 0 48 (by omega), nm_e (nm_r (e' := 1) (by decide) hp)⟩))
theorem qt_good1 {post : Int32 → St2 → Prop} {f1 f2 x : Int32} {a1 a2 a3 a4 a5 : Nat → Int32} (h : qt_v x) (hp : post 2 (2, f1, 0, upd a1 1 x, a2, a3, a4, a5)) : wpX_push post (1, f1, f2, a1, a2, a3, a4, a5) x := by
  unfold wpX_push
  exact br_f h.1 (br_t h.2 (br_f (by decide) ⟨pk_in 1 48 (by omega), nm_e (nm_r (e' := 2) (by decide) hp)⟩))
/-- the law's tail out of a run of its twin -/
theorem qt_93 {mc ms kc ks : Nat} {x y n z r : Int32} {e l : Bool} {t : Nat → Int32} (he : e = true ↔ x = y) (hl : l = true ↔ y ≤ x) (h : qt_run e l n z r t = true) : wL_lawOf_93 (fun r _ => r = 1) mc ms x y n z r kc ks n 0 0 t (fun _ => 0) (fun _ => 0) (fun _ => 0) (fun _ => 0) :=
  qs_l_93 (post_b := qt_p) (post := fun r _ => r = 1) (fun _ _ h => of_decide_eq_true h) he hl h
theorem qt_B (c : Prop) : ∃ b : Bool, b = true ↔ c := by
  by_cases h : c
  · exact ⟨true, fun _ => h, fun _ => rfl⟩
  · exact ⟨false, fun z => absurd z Bool.false_ne_true, fun z => absurd z h⟩
/-- both flags set: from the first push on -/
theorem qt_37 {mc ms kc ks : Nat} {x y g k : Int32} (hx : g = 0 ∧ ¬ qt_v x ∨ g = 1 ∧ qt_v x) (hy : k = 0 ∧ ¬ qt_v y ∨ k = 1 ∧ qt_v y) : wL_lawOf_37 (fun r _ => r = 1) mc ms x y g k kc ks 0 0 0 (fun _ => 0) (fun _ => 0) (fun _ => 0) (fun _ => 0) (fun _ => 0) := by
  obtain ⟨e, he⟩ := qt_B (x = y)
  obtain ⟨l, hl⟩ := qt_B (y ≤ x)
  unfold wL_lawOf_37
  rcases hx with ⟨rfl, hx⟩ | ⟨rfl, hx⟩
  · refine br_t rfl ?_
    unfold wL_lawOf_48
    refine qt_bad hx (br_t rfl ?_)
    unfold wL_lawOf_64
    refine br_t rfl ?_
    rcases hy with ⟨rfl, hy⟩ | ⟨rfl, hy⟩
    · refine br_t rfl ?_
      unfold wL_lawOf_77
      exact qt_bad hy (br_t rfl (qt_93 he hl (qt_k0 e l)))
    · refine br_f (by decide) (nm_r (e' := 1) (by decide) ?_)
      unfold wL_lawOf_77
      obtain ⟨b, hb⟩ := qt_num hy
      refine qt_good0 hy (br_f (by decide) (qt_93 he hl ?_))
      rw [hb]
      exact qt_k2 b e l
  · refine br_f (by decide) ?_
    unfold wL_lawOf_48
    obtain ⟨a, ha⟩ := qt_num hx
    refine qt_good0 hx (br_f (by decide) ?_)
    unfold wL_lawOf_64
    refine br_t rfl ?_
    rcases hy with ⟨rfl, hy⟩ | ⟨rfl, hy⟩
    · refine br_t rfl ?_
      unfold wL_lawOf_77
      refine qt_bad hy (br_t rfl (qt_93 he hl ?_))
      rw [ha]
      exact qt_k1 a e l
    · refine br_f (by decide) (nm_r (e' := 2) (by decide) ?_)
      unfold wL_lawOf_77
      obtain ⟨b, hb⟩ := qt_num hy
      refine qt_good1 hy (br_f (by decide) (qt_93 (e := decide (x = y)) (l := decide (y ≤ x)) decide_eq_true_iff decide_eq_true_iff ?_))
      rw [ha, hb]
      exact qt_k3 a b
theorem qt_gt {x : Int32} (h : 3 < x) : ¬ x ≤ 3 := Int32.not_le.mpr h
theorem qt_22 {mc ms kc ks : Nat} {x y g : Int32} (hx : g = 0 ∧ ¬ qt_v x ∨ g = 1 ∧ qt_v x) : wL_lawOf_22 (fun r _ => r = 1) mc ms x y g kc ks 0 0 0 (fun _ => 0) (fun _ => 0) (fun _ => 0) (fun _ => 0) (fun _ => 0) := by
  unfold wL_lawOf_22 wL_lawOf_36
  exact br_c (fun c => qt_37 hx (Or.inl ⟨rfl, fun z => z.1 c⟩)) (fun c => br_c (fun d => qt_37 hx (Or.inl ⟨rfl, fun z => qt_gt d z.2⟩)) (fun d => qt_37 hx (Or.inr ⟨rfl, c, Int32.not_lt.mp d⟩)))
theorem qt_law (x y : Int32) : wpL_lawOf (fun r _ => r = 1) 216 3440 () x y := by
  unfold wpL_lawOf
  refine ⟨by decide, by decide, 215, 3432, by decide, by decide, ?_⟩
  unfold wpX_init wL_lawOf_21
  refine ⟨by decide, by decide, by decide, by decide, by decide, by decide, by decide, by decide, by decide, by decide, ?_⟩
  exact br_c (fun c => qt_22 (Or.inl ⟨rfl, fun z => z.1 c⟩)) (fun c => br_c (fun d => qt_22 (Or.inl ⟨rfl, fun z => qt_gt d z.2⟩)) (fun d => qt_22 (Or.inr ⟨rfl, c, Int32.not_lt.mp d⟩)))
theorem qt_cell {post : Int32 → Prop} {L : Nat} {xs : Nat → Int32} {i : Nat} {x : Int32} (hL : L ≤ 2) (hi : i < 2) (e : x = nI i) (h : ∀ r, post r) : wpL_cellAt post L xs () x := by
  unfold wpL_cellAt
  rw [e]
  exact pk_le L i (fun _ => h _) (fun z => ⟨vp_in_nI z (by omega), h _⟩)
theorem i_vc (xs : Nat → Int32) (L : Nat) (hL : L ≤ 2) : wpL_law (fun r => r = 1) L xs := by
  unfold wpL_law
  exact qt_cell (i := 0) hL (by decide) rfl (fun x => qt_cell (i := 1) hL (by decide) rfl (fun y => ⟨216, 3440, by decide, by decide, qt_law x y⟩))
end
