section
/-! arrays as lists: a place that the list lacks holds 0 -/
def qm_lk {α : Type} (d : α) : List α → Nat → α
  | [], _ => d
  | a :: _, 0 => a
  | _ :: l, i + 1 => qm_lk d l i
def qm_ls {α : Type} (d v : α) : Nat → List α → List α
  | 0, [] => [v]
  | 0, _ :: l => v :: l
  | i + 1, [] => d :: qm_ls d v i []
  | i + 1, a :: l => a :: qm_ls d v i l
theorem qm_ls_eq {α : Type} (d v : α) : ∀ (i : Nat) (l : List α) (j : Nat), qm_lk d (qm_ls d v i l) j = if j = i then v else qm_lk d l j := by
  intro i
  induction i with
  | zero =>
    intro l j
    cases l <;> cases j <;> simp [qm_ls, qm_lk]
  | succ i ih =>
    intro l j
    cases l <;> cases j <;> simp [qm_ls, qm_lk, ih]
def qm_r (l : List Int32) : Nat → Int32 := qm_lk 0 l
def qm_rL (l : List Int64) : Nat → Int64 := qm_lk 0 l
theorem qm_r_0 : (fun _ => 0) = qm_r [] := rfl
theorem qm_rL_0 : (fun _ => 0) = qm_rL [] := rfl
theorem qm_r_upd (l : List Int32) (i : Nat) (v : Int32) : upd (qm_r l) i v = qm_r (qm_ls 0 v i l) :=
  funext fun j => (qm_ls_eq 0 v i l j).symm
theorem qm_rL_upd (l : List Int64) (i : Nat) (v : Int64) : vp_updL (qm_rL l) i v = qm_rL (qm_ls 0 v i l) :=
  funext fun j => (qm_ls_eq 0 v i l j).symm
/-! a number, a list is computed before it is handed on -/
def qm_fn (n : Nat) (k : Nat → Bool) : Bool := match n with
  | 0 => k 0
  | m + 1 => k (m + 1)
theorem qm_fn_eq (n : Nat) (k : Nat → Bool) : qm_fn n k = k n := by
  cases n <;> rfl
def qm_fl {α : Type} : List α → (List α → Bool) → Bool
  | [], k => k []
  | a :: l, k => qm_fl l (fun t => k (a :: t))
theorem qm_fl_eq {α : Type} : ∀ (l : List α) (k : List α → Bool), qm_fl l k = k l := by
  intro l
  induction l with
  | nil => exact fun _ => rfl
  | cons a l ih => exact fun k => ih _
theorem qm_ofN (e : Int32) : Int32.ofNat e.toBitVec.toNat = e := by
  rcases e with ⟨⟨b⟩⟩
  show Int32.ofUInt32 (UInt32.ofBitVec (BitVec.ofNat 32 b.toNat)) = _
  rw [BitVec.ofNat_toNat, BitVec.setWidth_eq]
theorem qm_ofNL (e : Int64) : Int64.ofNat e.toBitVec.toNat = e := by
  rcases e with ⟨⟨b⟩⟩
  show Int64.ofUInt64 (UInt64.ofBitVec (BitVec.ofNat 64 b.toNat)) = _
  rw [BitVec.ofNat_toNat, BitVec.setWidth_eq]
def qm_let (e : Int32) (k : Int32 → Bool) : Bool := qm_fn e.toBitVec.toNat (fun n => k (Int32.ofNat n))
def qm_letL (e : Int64) (k : Int64 → Bool) : Bool := qm_fn e.toBitVec.toNat (fun n => k (Int64.ofNat n))
theorem qm_let_eq (e : Int32) (k : Int32 → Bool) : qm_let e k = k e :=
  (qm_fn_eq _ _).trans (congrArg k (qm_ofN e))
theorem qm_letL_eq (e : Int64) (k : Int64 → Bool) : qm_letL e k = k e :=
  (qm_fn_eq _ _).trans (congrArg k (qm_ofNL e))
def qm_set (l : List Int32) (i : Nat) (v : Int32) (k : List Int32 → Bool) : Bool := qm_let v (fun v => qm_fl (qm_ls 0 v i l) k)
def qm_setL (l : List Int64) (i : Nat) (v : Int64) (k : List Int64 → Bool) : Bool := qm_letL v (fun v => qm_fl (qm_ls 0 v i l) k)
theorem qm_set_eq (l : List Int32) (i : Nat) (v : Int32) (k : List Int32 → Bool) : qm_set l i v k = k (qm_ls 0 v i l) :=
  (qm_let_eq _ _).trans (qm_fl_eq _ _)
theorem qm_setL_eq (l : List Int64) (i : Nat) (v : Int64) (k : List Int64 → Bool) : qm_setL l i v k = k (qm_ls 0 v i l) :=
  (qm_letL_eq _ _).trans (qm_fl_eq _ _)
def qm_in (i : Int32) (n : Nat) : Bool := decide (¬ (i < 0 ∨ n ≤ i.toNatClampNeg))
/-! one step of a twin answers for one step of the predicate -/
theorem qm_iteI {c : Prop} {d : Decidable c} {A B : Bool} {P Q : Prop} (h : (@ite Bool c d A B) = true) (hA : A = true → P) (hB : B = true → Q) : (c → P) ∧ (¬ c → Q) :=
  ⟨fun hc => hA ((if_pos hc).symm.trans h), fun hc => hB ((if_neg hc).symm.trans h)⟩
theorem qm_andI {c : Prop} {d : Decidable c} {A : Bool} {P : Prop} (h : (@decide c d && A) = true) (hA : A = true → P) : c ∧ P := by
  rw [Bool.and_eq_true] at h
  exact ⟨of_decide_eq_true h.1, hA h.2⟩
theorem qm_inI {i : Int32} {n : Nat} {A : Bool} {P : Prop} (h : (qm_in i n && A) = true) (hA : A = true → P) : vp_in i n ∧ P := by
  rw [Bool.and_eq_true] at h
  have h1 : ¬ (i < 0 ∨ n ≤ i.toNatClampNeg) := of_decide_eq_true h.1
  exact ⟨h1, hA h.2⟩
theorem qm_letI {e : Int32} {k : Int32 → Bool} {P : Int32 → Prop} (h : qm_let e k = true) (hk : ∀ x, k x = true → P x) : ∀ x, x = e → P x :=
  fun x hx => hk x (by rw [hx]; exact (qm_let_eq e k).symm.trans h)
theorem qm_setI {l : List Int32} {i : Nat} {v : Int32} {k : List Int32 → Bool} {P : (Nat → Int32) → Prop} (h : qm_set l i v k = true) (hk : ∀ t, k t = true → P (qm_r t)) : ∀ a, a = upd (qm_r l) i v → P a :=
  fun a ha => by
    rw [ha, qm_r_upd]
    exact hk _ ((qm_set_eq l i v k).symm.trans h)
theorem qm_setLI {l : List Int64} {i : Nat} {v : Int64} {k : List Int64 → Bool} {P : (Nat → Int64) → Prop} (h : qm_setL l i v k = true) (hk : ∀ t, k t = true → P (qm_rL t)) : ∀ a, a = vp_updL (qm_rL l) i v → P a :=
  fun a ha => by
    rw [ha, qm_rL_upd]
    exact hk _ ((qm_setL_eq l i v k).symm.trans h)
/-! the posts' kinds: what a twin's post is (qb_), and that it answers for the predicate's (qp_) -/
abbrev qb_I : Type := Int32 → Bool
abbrev qp_I (b : qb_I) (p : Int32 → Prop) : Prop := ∀ r : Int32, b r = true → p r
abbrev qb_P : Type := Int32 → Int32 → Int32 → Int32 → Int32 → List Int32 → List Int32 → List Int32 → List Int32 → List Int32 → List Int32 → List Int32 → List Int32 → List Int32 → List Int32 → List Int32 → List Int32 → List Int64 → List Int32 → List Int32 → Bool
abbrev qp_P (b : qb_P) (p : St2 → Prop) : Prop := ∀ (f1 f2 f3 f4 f5 : Int32) (l1 l2 l3 l4 l5 l6 l7 l8 l9 l10 l11 l12 : List Int32) (l13 : List Int64) (l14 l15 : List Int32), b f1 f2 f3 f4 f5 l1 l2 l3 l4 l5 l6 l7 l8 l9 l10 l11 l12 l13 l14 l15 = true → p (f1, f2, f3, f4, f5, qm_r l1, qm_r l2, qm_r l3, qm_r l4, qm_r l5, qm_r l6, qm_r l7, qm_r l8, qm_r l9, qm_r l10, qm_r l11, qm_r l12, qm_rL l13, qm_r l14, qm_r l15)
abbrev qb_R : Type := Int32 → Int32 → Int32 → Int32 → Int32 → Int32 → List Int32 → List Int32 → List Int32 → List Int32 → List Int32 → List Int32 → List Int32 → List Int32 → List Int32 → List Int32 → List Int32 → List Int32 → List Int64 → List Int32 → List Int32 → Bool
abbrev qp_R (b : qb_R) (p : Int32 → St2 → Prop) : Prop := ∀ (r : Int32) (f1 f2 f3 f4 f5 : Int32) (l1 l2 l3 l4 l5 l6 l7 l8 l9 l10 l11 l12 : List Int32) (l13 : List Int64) (l14 l15 : List Int32), b r f1 f2 f3 f4 f5 l1 l2 l3 l4 l5 l6 l7 l8 l9 l10 l11 l12 l13 l14 l15 = true → p r (f1, f2, f3, f4, f5, qm_r l1, qm_r l2, qm_r l3, qm_r l4, qm_r l5, qm_r l6, qm_r l7, qm_r l8, qm_r l9, qm_r l10, qm_r l11, qm_r l12, qm_rL l13, qm_r l14, qm_r l15)
abbrev qb_J2 : Type := Int32 → Int32 → List Int32 → List Int32 → List Int32 → List Int32 → List Int32 → List Int32 → List Int32 → List Int32 → List Int32 → List Int32 → List Int32 → List Int32 → List Int64 → List Int32 → List Int32 → Bool
abbrev qp_J2 (b : qb_J2) (p : Int32 → Int32 → (Nat → Int32) → (Nat → Int32) → (Nat → Int32) → (Nat → Int32) → (Nat → Int32) → (Nat → Int32) → (Nat → Int32) → (Nat → Int32) → (Nat → Int32) → (Nat → Int32) → (Nat → Int32) → (Nat → Int32) → (Nat → Int64) → (Nat → Int32) → (Nat → Int32) → Prop) : Prop := ∀ (x1 x2 : Int32) (l1 l2 l3 l4 l5 l6 l7 l8 l9 l10 l11 l12 : List Int32) (l13 : List Int64) (l14 l15 : List Int32), b x1 x2 l1 l2 l3 l4 l5 l6 l7 l8 l9 l10 l11 l12 l13 l14 l15 = true → p x1 x2 (qm_r l1) (qm_r l2) (qm_r l3) (qm_r l4) (qm_r l5) (qm_r l6) (qm_r l7) (qm_r l8) (qm_r l9) (qm_r l10) (qm_r l11) (qm_r l12) (qm_rL l13) (qm_r l14) (qm_r l15)
abbrev qb_J3 : Type := Int32 → Int32 → Int32 → List Int32 → List Int32 → List Int32 → List Int32 → List Int32 → List Int32 → List Int32 → List Int32 → List Int32 → List Int32 → List Int32 → List Int32 → List Int64 → List Int32 → List Int32 → Bool
abbrev qp_J3 (b : qb_J3) (p : Int32 → Int32 → Int32 → (Nat → Int32) → (Nat → Int32) → (Nat → Int32) → (Nat → Int32) → (Nat → Int32) → (Nat → Int32) → (Nat → Int32) → (Nat → Int32) → (Nat → Int32) → (Nat → Int32) → (Nat → Int32) → (Nat → Int32) → (Nat → Int64) → (Nat → Int32) → (Nat → Int32) → Prop) : Prop := ∀ (x1 x2 x3 : Int32) (l1 l2 l3 l4 l5 l6 l7 l8 l9 l10 l11 l12 : List Int32) (l13 : List Int64) (l14 l15 : List Int32), b x1 x2 x3 l1 l2 l3 l4 l5 l6 l7 l8 l9 l10 l11 l12 l13 l14 l15 = true → p x1 x2 x3 (qm_r l1) (qm_r l2) (qm_r l3) (qm_r l4) (qm_r l5) (qm_r l6) (qm_r l7) (qm_r l8) (qm_r l9) (qm_r l10) (qm_r l11) (qm_r l12) (qm_rL l13) (qm_r l14) (qm_r l15)
abbrev qb_J6 : Type := Int32 → Int32 → Int32 → Int32 → Int32 → Int32 → List Int32 → List Int32 → List Int32 → List Int32 → List Int32 → List Int32 → List Int32 → List Int32 → List Int32 → List Int32 → List Int32 → List Int32 → List Int64 → List Int32 → List Int32 → Bool
abbrev qp_J6 (b : qb_J6) (p : Int32 → Int32 → Int32 → Int32 → Int32 → Int32 → (Nat → Int32) → (Nat → Int32) → (Nat → Int32) → (Nat → Int32) → (Nat → Int32) → (Nat → Int32) → (Nat → Int32) → (Nat → Int32) → (Nat → Int32) → (Nat → Int32) → (Nat → Int32) → (Nat → Int32) → (Nat → Int64) → (Nat → Int32) → (Nat → Int32) → Prop) : Prop := ∀ (x1 x2 x3 x4 x5 x6 : Int32) (l1 l2 l3 l4 l5 l6 l7 l8 l9 l10 l11 l12 : List Int32) (l13 : List Int64) (l14 l15 : List Int32), b x1 x2 x3 x4 x5 x6 l1 l2 l3 l4 l5 l6 l7 l8 l9 l10 l11 l12 l13 l14 l15 = true → p x1 x2 x3 x4 x5 x6 (qm_r l1) (qm_r l2) (qm_r l3) (qm_r l4) (qm_r l5) (qm_r l6) (qm_r l7) (qm_r l8) (qm_r l9) (qm_r l10) (qm_r l11) (qm_r l12) (qm_rL l13) (qm_r l14) (qm_r l15)
abbrev qb_J7 : Type := Int32 → Int32 → Int32 → Int32 → Int32 → Int32 → Int32 → List Int32 → List Int32 → List Int32 → List Int32 → List Int32 → List Int32 → List Int32 → List Int32 → List Int32 → List Int32 → List Int32 → List Int32 → List Int64 → List Int32 → List Int32 → Bool
abbrev qp_J7 (b : qb_J7) (p : Int32 → Int32 → Int32 → Int32 → Int32 → Int32 → Int32 → (Nat → Int32) → (Nat → Int32) → (Nat → Int32) → (Nat → Int32) → (Nat → Int32) → (Nat → Int32) → (Nat → Int32) → (Nat → Int32) → (Nat → Int32) → (Nat → Int32) → (Nat → Int32) → (Nat → Int32) → (Nat → Int64) → (Nat → Int32) → (Nat → Int32) → Prop) : Prop := ∀ (x1 x2 x3 x4 x5 x6 x7 : Int32) (l1 l2 l3 l4 l5 l6 l7 l8 l9 l10 l11 l12 : List Int32) (l13 : List Int64) (l14 l15 : List Int32), b x1 x2 x3 x4 x5 x6 x7 l1 l2 l3 l4 l5 l6 l7 l8 l9 l10 l11 l12 l13 l14 l15 = true → p x1 x2 x3 x4 x5 x6 x7 (qm_r l1) (qm_r l2) (qm_r l3) (qm_r l4) (qm_r l5) (qm_r l6) (qm_r l7) (qm_r l8) (qm_r l9) (qm_r l10) (qm_r l11) (qm_r l12) (qm_rL l13) (qm_r l14) (qm_r l15)
end
section
/-! printed by gen.py: the twins of repeat, type and their rows -/
def qm_type (post : qb_R) (fa fb fc fd fe : Int32) (a1 a2 a3 a4 a5 a6 a7 a8 a9 a10 a11 a12 : List Int32) (a13 : List Int64) (a14 a15 : List Int32) (p0 : Int32) : Bool := if fa < 32 then (if p0 < 0 then (post (-1) fa fb fc fd fe a1 a2 a3 a4 a5 a6 a7 a8 a9 a10 a11 a12 a13 a14 a15) else (if p0 < 6 then (qm_in fa 32 && (qm_set a1 fa.toNatClampNeg p0.toInt8.toInt32 (fun a1_5 => qm_let (fa + 1) (fun f_6 => post f_6 f_6 0 fc fd fe a1_5 a2 a3 a4 a5 a6 a7 a8 a9 a10 a11 a12 a13 a14 a15)))) else (post (-1) fa fb fc fd fe a1 a2 a3 a4 a5 a6 a7 a8 a9 a10 a11 a12 a13 a14 a15))) else (post (-2) fa fb fc fd fe a1 a2 a3 a4 a5 a6 a7 a8 a9 a10 a11 a12 a13 a14 a15)
theorem qs_type {b_post : qb_R} {post : Int32 → St2 → Prop} {fa fb fc fd fe : Int32} {a1 a2 a3 a4 a5 a6 a7 a8 a9 a10 a11 a12 : List Int32} {a13 : List Int64} {a14 a15 : List Int32} {p0 : Int32} (h_post : qp_R b_post post) (h : qm_type b_post fa fb fc fd fe a1 a2 a3 a4 a5 a6 a7 a8 a9 a10 a11 a12 a13 a14 a15 p0 = true) : wpX_type post (fa, fb, fc, fd, fe, qm_r a1, qm_r a2, qm_r a3, qm_r a4, qm_r a5, qm_r a6, qm_r a7, qm_r a8, qm_r a9, qm_r a10, qm_r a11, qm_r a12, qm_rL a13, qm_r a14, qm_r a15) p0 := by
  refine qm_iteI h (fun h => ?_) (fun h => ?_)
  · refine qm_iteI h (fun h => ?_) (fun h => ?_)
    · exact h_post _ _ _ _ _ _ _ _ _ _ _ _ _ _ _ _ _ _ _ _ _ h
    · refine qm_iteI h (fun h => ?_) (fun h => ?_)
      · refine qm_inI h (fun h => ?_)
        refine qm_setI h (fun a1_5 h => ?_)
        refine qm_letI h (fun f_6 h => ?_)
        exact h_post _ _ _ _ _ _ _ _ _ _ _ _ _ _ _ _ _ _ _ _ _ h
      · exact h_post _ _ _ _ _ _ _ _ _ _ _ _ _ _ _ _ _ _ _ _ _ h
  · exact h_post _ _ _ _ _ _ _ _ _ _ _ _ _ _ _ _ _ _ _ _ _ h
def qm_repeat_38 (post : qb_R) (x1 x2 fa fb fc fd fe : Int32) : Nat → Int32 → List Int32 → List Int32 → List Int32 → List Int32 → List Int32 → List Int32 → List Int32 → List Int32 → List Int32 → List Int32 → List Int32 → List Int32 → List Int64 → List Int32 → List Int32 → Bool
  | 0 => fun _ _ _ _ _ _ _ _ _ _ _ _ _ _ _ _ => false
  | n + 1 => fun x3 a1 a2 a3 a4 a5 a6 a7 a8 a9 a10 a11 a12 a13 a14 a15 => if x1 ≤ x3 then (qm_let (fa + x1) (fun f_6 => post f_6 f_6 0 fc fd fe a1 a2 a3 a4 a5 a6 a7 a8 a9 a10 a11 a12 a13 a14 a15)) else (qm_in (x2 + x3) 32 && (qm_in (fa + x3) 32 && (qm_set a1 (fa + x3).toNatClampNeg (vp_nar .byte (qm_r a1 (x2 + x3).toNatClampNeg)) (fun a1_9 => qm_let (x3 + 1) (fun x3_10 => qm_repeat_38 post x1 x2 fa fb fc fd fe n x3_10 a1_9 a2 a3 a4 a5 a6 a7 a8 a9 a10 a11 a12 a13 a14 a15)))))
theorem qs_repeat_38 {b_post : qb_R} {post : Int32 → St2 → Prop} {x1 x2 fa fb fc fd fe : Int32} (h_post : qp_R b_post post) : ∀ (n : Nat) (x3 : Int32) (a1 a2 a3 a4 a5 a6 a7 a8 a9 a10 a11 a12 : List Int32) (a13 : List Int64) (a14 a15 : List Int32), qm_repeat_38 b_post x1 x2 fa fb fc fd fe n x3 a1 a2 a3 a4 a5 a6 a7 a8 a9 a10 a11 a12 a13 a14 a15 = true → wX_repeat_38 post x1 x2 fa fb fc fd fe n x3 (qm_r a1) (qm_r a2) (qm_r a3) (qm_r a4) (qm_r a5) (qm_r a6) (qm_r a7) (qm_r a8) (qm_r a9) (qm_r a10) (qm_r a11) (qm_r a12) (qm_rL a13) (qm_r a14) (qm_r a15) := by
  intro n
  induction n with
  | zero => exact fun _ _ _ _ _ _ _ _ _ _ _ _ _ _ _ _ h => absurd h Bool.false_ne_true
  | succ n ih =>
    intro x3 a1 a2 a3 a4 a5 a6 a7 a8 a9 a10 a11 a12 a13 a14 a15 h
    refine qm_iteI h (fun h => ?_) (fun h => ?_)
    · refine qm_letI h (fun f_6 h => ?_)
      exact h_post _ _ _ _ _ _ _ _ _ _ _ _ _ _ _ _ _ _ _ _ _ h
    · refine qm_inI h (fun h => ?_)
      refine qm_inI h (fun h => ?_)
      refine qm_setI h (fun a1_9 h => ?_)
      refine qm_letI h (fun x3_10 h => ?_)
      exact ih _ _ _ _ _ _ _ _ _ _ _ _ _ _ _ _ h
def qm_repeat (post : qb_R) (fa fb fc fd fe : Int32) (a1 a2 a3 a4 a5 a6 a7 a8 a9 a10 a11 a12 : List Int32) (a13 : List Int64) (a14 a15 : List Int32) (p0 : Int32) : Bool := if p0 < 1 then (post (-1) fa fb fc fd fe a1 a2 a3 a4 a5 a6 a7 a8 a9 a10 a11 a12 a13 a14 a15) else (if p0 ≤ fa then (if (fa + p0) ≤ 32 then (qm_let (fa - p0) (fun x2_4 => qm_repeat_38 post p0 x2_4 fa fb fc fd fe 40 0 a1 a2 a3 a4 a5 a6 a7 a8 a9 a10 a11 a12 a13 a14 a15)) else (post (-2) fa fb fc fd fe a1 a2 a3 a4 a5 a6 a7 a8 a9 a10 a11 a12 a13 a14 a15)) else (post (-1) fa fb fc fd fe a1 a2 a3 a4 a5 a6 a7 a8 a9 a10 a11 a12 a13 a14 a15))
theorem qs_repeat {b_post : qb_R} {post : Int32 → St2 → Prop} {fa fb fc fd fe : Int32} {a1 a2 a3 a4 a5 a6 a7 a8 a9 a10 a11 a12 : List Int32} {a13 : List Int64} {a14 a15 : List Int32} {p0 : Int32} (h_post : qp_R b_post post) (h : qm_repeat b_post fa fb fc fd fe a1 a2 a3 a4 a5 a6 a7 a8 a9 a10 a11 a12 a13 a14 a15 p0 = true) : wpX_repeat post (fa, fb, fc, fd, fe, qm_r a1, qm_r a2, qm_r a3, qm_r a4, qm_r a5, qm_r a6, qm_r a7, qm_r a8, qm_r a9, qm_r a10, qm_r a11, qm_r a12, qm_rL a13, qm_r a14, qm_r a15) p0 := by
  refine qm_iteI h (fun h => ?_) (fun h => ?_)
  · exact h_post _ _ _ _ _ _ _ _ _ _ _ _ _ _ _ _ _ _ _ _ _ h
  · refine qm_iteI h (fun h => ?_) (fun h => ?_)
    · refine qm_iteI h (fun h => ?_) (fun h => ?_)
      · refine qm_letI h (fun x2_4 h => ?_)
        refine ⟨40, ?_⟩
        exact qs_repeat_38 h_post _ _ _ _ _ _ _ _ _ _ _ _ _ _ _ _ _ h
      · exact h_post _ _ _ _ _ _ _ _ _ _ _ _ _ _ _ _ _ _ _ _ _ h
    · exact h_post _ _ _ _ _ _ _ _ _ _ _ _ _ _ _ _ _ _ _ _ _ h
end
section
/-! printed by gen.py: the twins of comesAfter, compare, sink, sortRotations and their rows -/
def qm_compare (post : qb_I) (fa fb fc fd fe : Int32) (a1 a2 a3 a4 a5 a6 a7 a8 a9 a10 a11 a12 : List Int32) (a13 : List Int64) (a14 a15 : List Int32) (p0 p1 p2 : Int32) : Bool := qm_in p0 32 && (qm_in p1 32 && (if (qm_r a3 p0.toNatClampNeg) = (qm_r a3 p1.toNatClampNeg) then (decide (¬ fa = 0) && (qm_in ((p0 + p2) - (p0 + p2) / fa * fa) 32 && (decide (¬ fa = 0) && (qm_in ((p1 + p2) - (p1 + p2) / fa * fa) 32 && (post ((qm_r a3 ((p0 + p2) - (p0 + p2) / fa * fa).toNatClampNeg) - (qm_r a3 ((p1 + p2) - (p1 + p2) / fa * fa).toNatClampNeg))))))) else (qm_in p0 32 && (qm_in p1 32 && (post ((qm_r a3 p0.toNatClampNeg) - (qm_r a3 p1.toNatClampNeg)))))))
theorem qs_compare {b_post : qb_I} {post : Int32 → Prop} {fa fb fc fd fe : Int32} {a1 a2 a3 a4 a5 a6 a7 a8 a9 a10 a11 a12 : List Int32} {a13 : List Int64} {a14 a15 : List Int32} {p0 p1 p2 : Int32} (h_post : qp_I b_post post) (h : qm_compare b_post fa fb fc fd fe a1 a2 a3 a4 a5 a6 a7 a8 a9 a10 a11 a12 a13 a14 a15 p0 p1 p2 = true) : wpX_compare post (fa, fb, fc, fd, fe, qm_r a1, qm_r a2, qm_r a3, qm_r a4, qm_r a5, qm_r a6, qm_r a7, qm_r a8, qm_r a9, qm_r a10, qm_r a11, qm_r a12, qm_rL a13, qm_r a14, qm_r a15) p0 p1 p2 := by
  refine qm_inI h (fun h => ?_)
  refine qm_inI h (fun h => ?_)
  refine qm_iteI h (fun h => ?_) (fun h => ?_)
  · refine qm_andI h (fun h => ?_)
    refine qm_inI h (fun h => ?_)
    refine qm_andI h (fun h => ?_)
    refine qm_inI h (fun h => ?_)
    exact h_post _ h
  · refine qm_inI h (fun h => ?_)
    refine qm_inI h (fun h => ?_)
    exact h_post _ h
def qm_comesAfter (post : qb_I) (fa fb fc fd fe : Int32) (a1 a2 a3 a4 a5 a6 a7 a8 a9 a10 a11 a12 : List Int32) (a13 : List Int64) (a14 a15 : List Int32) (p0 p1 p2 : Int32) : Bool := qm_compare (fun r_1 => if 0 < r_1 then (post 1) else (if r_1 = 0 then (if p0 ≤ p1 then (post 0) else (post 1)) else (post 0))) fa fb fc fd fe a1 a2 a3 a4 a5 a6 a7 a8 a9 a10 a11 a12 a13 a14 a15 p0 p1 p2
theorem qs_comesAfter {b_post : qb_I} {post : Int32 → Prop} {fa fb fc fd fe : Int32} {a1 a2 a3 a4 a5 a6 a7 a8 a9 a10 a11 a12 : List Int32} {a13 : List Int64} {a14 a15 : List Int32} {p0 p1 p2 : Int32} (h_post : qp_I b_post post) (h : qm_comesAfter b_post fa fb fc fd fe a1 a2 a3 a4 a5 a6 a7 a8 a9 a10 a11 a12 a13 a14 a15 p0 p1 p2 = true) : wpX_comesAfter post (fa, fb, fc, fd, fe, qm_r a1, qm_r a2, qm_r a3, qm_r a4, qm_r a5, qm_r a6, qm_r a7, qm_r a8, qm_r a9, qm_r a10, qm_r a11, qm_r a12, qm_rL a13, qm_r a14, qm_r a15) p0 p1 p2 := by
  unfold wpX_comesAfter
  unfold qm_comesAfter at h
  refine qs_compare (fun r_1 h => ?_) h
  refine qm_iteI h (fun h => ?_) (fun h => ?_)
  · exact h_post _ h
  · refine qm_iteI h (fun h => ?_) (fun h => ?_)
    · refine qm_iteI h (fun h => ?_) (fun h => ?_)
      · exact h_post _ h
      · exact h_post _ h
    · exact h_post _ h
def qm_sink_10 (post : qb_P) (x2 x3 fa fb fc fd fe : Int32) : Nat → Int32 → List Int32 → List Int32 → List Int32 → List Int32 → List Int32 → List Int32 → List Int32 → List Int32 → List Int32 → List Int32 → List Int32 → List Int32 → List Int64 → List Int32 → List Int32 → Bool
  | 0 => fun _ _ _ _ _ _ _ _ _ _ _ _ _ _ _ _ => false
  | n + 1 => fun x4 a1 a2 a3 a4 a5 a6 a7 a8 a9 a10 a11 a12 a13 a14 a15 => if x4 ≤ 0 then (qm_in x4 32 && (qm_set a2 x4.toNatClampNeg (vp_nar .byte x3) (fun a2_5 => post fa fb fc fd fe a1 a2_5 a3 a4 a5 a6 a7 a8 a9 a10 a11 a12 a13 a14 a15))) else (qm_in (x4 - 1) 32 && (qm_comesAfter (fun r_7 => if r_7 = 0 then (qm_in x4 32 && (qm_set a2 x4.toNatClampNeg (vp_nar .byte x3) (fun a2_10 => post fa fb fc fd fe a1 a2_10 a3 a4 a5 a6 a7 a8 a9 a10 a11 a12 a13 a14 a15))) else (qm_in (x4 - 1) 32 && (qm_in x4 32 && (qm_set a2 x4.toNatClampNeg (vp_nar .byte (qm_r a2 (x4 - 1).toNatClampNeg)) (fun a2_13 => qm_let (x4 + (-1)) (fun x4_14 => qm_sink_10 post x2 x3 fa fb fc fd fe n x4_14 a1 a2_13 a3 a4 a5 a6 a7 a8 a9 a10 a11 a12 a13 a14 a15)))))) fa fb fc fd fe a1 a2 a3 a4 a5 a6 a7 a8 a9 a10 a11 a12 a13 a14 a15 (qm_r a2 (x4 - 1).toNatClampNeg) x3 x2))
theorem qs_sink_10 {b_post : qb_P} {post : St2 → Prop} {x2 x3 fa fb fc fd fe : Int32} (h_post : qp_P b_post post) : ∀ (n : Nat) (x4 : Int32) (a1 a2 a3 a4 a5 a6 a7 a8 a9 a10 a11 a12 : List Int32) (a13 : List Int64) (a14 a15 : List Int32), qm_sink_10 b_post x2 x3 fa fb fc fd fe n x4 a1 a2 a3 a4 a5 a6 a7 a8 a9 a10 a11 a12 a13 a14 a15 = true → wX_sink_10 post x2 x3 fa fb fc fd fe n x4 (qm_r a1) (qm_r a2) (qm_r a3) (qm_r a4) (qm_r a5) (qm_r a6) (qm_r a7) (qm_r a8) (qm_r a9) (qm_r a10) (qm_r a11) (qm_r a12) (qm_rL a13) (qm_r a14) (qm_r a15) := by
  intro n
  induction n with
  | zero => exact fun _ _ _ _ _ _ _ _ _ _ _ _ _ _ _ _ h => absurd h Bool.false_ne_true
  | succ n ih =>
    intro x4 a1 a2 a3 a4 a5 a6 a7 a8 a9 a10 a11 a12 a13 a14 a15 h
    refine qm_iteI h (fun h => ?_) (fun h => ?_)
    · refine qm_inI h (fun h => ?_)
      refine qm_setI h (fun a2_5 h => ?_)
      exact h_post _ _ _ _ _ _ _ _ _ _ _ _ _ _ _ _ _ _ _ _ h
    · refine qm_inI h (fun h => ?_)
      refine qs_comesAfter (fun r_7 h => ?_) h
      refine qm_iteI h (fun h => ?_) (fun h => ?_)
      · refine qm_inI h (fun h => ?_)
        refine qm_setI h (fun a2_10 h => ?_)
        exact h_post _ _ _ _ _ _ _ _ _ _ _ _ _ _ _ _ _ _ _ _ h
      · refine qm_inI h (fun h => ?_)
        refine qm_inI h (fun h => ?_)
        refine qm_setI h (fun a2_13 h => ?_)
        refine qm_letI h (fun x4_14 h => ?_)
        exact ih _ _ _ _ _ _ _ _ _ _ _ _ _ _ _ _ h
def qm_sink (post : qb_P) (fa fb fc fd fe : Int32) (a1 a2 a3 a4 a5 a6 a7 a8 a9 a10 a11 a12 : List Int32) (a13 : List Int64) (a14 a15 : List Int32) (p0 p1 : Int32) : Bool := qm_in p0 32 && (qm_let (qm_r a2 p0.toNatClampNeg) (fun x3_2 => qm_sink_10 post p1 x3_2 fa fb fc fd fe 40 p0 a1 a2 a3 a4 a5 a6 a7 a8 a9 a10 a11 a12 a13 a14 a15))
theorem qs_sink {b_post : qb_P} {post : St2 → Prop} {fa fb fc fd fe : Int32} {a1 a2 a3 a4 a5 a6 a7 a8 a9 a10 a11 a12 : List Int32} {a13 : List Int64} {a14 a15 : List Int32} {p0 p1 : Int32} (h_post : qp_P b_post post) (h : qm_sink b_post fa fb fc fd fe a1 a2 a3 a4 a5 a6 a7 a8 a9 a10 a11 a12 a13 a14 a15 p0 p1 = true) : wpX_sink post (fa, fb, fc, fd, fe, qm_r a1, qm_r a2, qm_r a3, qm_r a4, qm_r a5, qm_r a6, qm_r a7, qm_r a8, qm_r a9, qm_r a10, qm_r a11, qm_r a12, qm_rL a13, qm_r a14, qm_r a15) p0 p1 := by
  refine qm_inI h (fun h => ?_)
  refine qm_letI h (fun x3_2 h => ?_)
  refine ⟨40, ?_⟩
  exact qs_sink_10 h_post _ _ _ _ _ _ _ _ _ _ _ _ _ _ _ _ _ h
def qm_sortRotations_128 (post : qb_P) (J38 : qb_J6) (x1 fa fb fc fd fe : Int32) : Nat → Int32 → List Int32 → List Int32 → List Int32 → List Int32 → List Int32 → List Int32 → List Int32 → List Int32 → List Int32 → List Int32 → List Int32 → List Int32 → List Int64 → List Int32 → List Int32 → Bool
  | 0 => fun _ _ _ _ _ _ _ _ _ _ _ _ _ _ _ _ => false
  | n + 1 => fun x3 a1 a2 a3 a4 a5 a6 a7 a8 a9 a10 a11 a12 a13 a14 a15 => if fa ≤ x3 then (qm_let (x1 * 2) (fun x1_6 => J38 x1_6 fa fb fc fd fe a1 a2 a3 a4 a5 a6 a7 a8 a9 a10 a11 a12 a13 a14 a15)) else (qm_in x3 32 && (qm_in x3 32 && (qm_set a3 x3.toNatClampNeg (vp_nar .byte (qm_r a4 x3.toNatClampNeg)) (fun a3_9 => qm_let (x3 + 1) (fun x3_10 => qm_sortRotations_128 post J38 x1 fa fb fc fd fe n x3_10 a1 a2 a3_9 a4 a5 a6 a7 a8 a9 a10 a11 a12 a13 a14 a15)))))
theorem qs_sortRotations_128 {b_post : qb_P} {post : St2 → Prop} {b_J38 : qb_J6} {J38 : Int32 → Int32 → Int32 → Int32 → Int32 → Int32 → (Nat → Int32) → (Nat → Int32) → (Nat → Int32) → (Nat → Int32) → (Nat → Int32) → (Nat → Int32) → (Nat → Int32) → (Nat → Int32) → (Nat → Int32) → (Nat → Int32) → (Nat → Int32) → (Nat → Int32) → (Nat → Int64) → (Nat → Int32) → (Nat → Int32) → Prop} {x1 fa fb fc fd fe : Int32} (h_post : qp_P b_post post) (h_J38 : qp_J6 b_J38 J38) : ∀ (n : Nat) (x3 : Int32) (a1 a2 a3 a4 a5 a6 a7 a8 a9 a10 a11 a12 : List Int32) (a13 : List Int64) (a14 a15 : List Int32), qm_sortRotations_128 b_post b_J38 x1 fa fb fc fd fe n x3 a1 a2 a3 a4 a5 a6 a7 a8 a9 a10 a11 a12 a13 a14 a15 = true → wX_sortRotations_128 post J38 x1 fa fb fc fd fe n x3 (qm_r a1) (qm_r a2) (qm_r a3) (qm_r a4) (qm_r a5) (qm_r a6) (qm_r a7) (qm_r a8) (qm_r a9) (qm_r a10) (qm_r a11) (qm_r a12) (qm_rL a13) (qm_r a14) (qm_r a15) := by
  intro n
  induction n with
  | zero => exact fun _ _ _ _ _ _ _ _ _ _ _ _ _ _ _ _ h => absurd h Bool.false_ne_true
  | succ n ih =>
    intro x3 a1 a2 a3 a4 a5 a6 a7 a8 a9 a10 a11 a12 a13 a14 a15 h
    refine qm_iteI h (fun h => ?_) (fun h => ?_)
    · refine qm_letI h (fun x1_6 h => ?_)
      exact h_J38 _ _ _ _ _ _ _ _ _ _ _ _ _ _ _ _ _ _ _ _ _ h
    · refine qm_inI h (fun h => ?_)
      refine qm_inI h (fun h => ?_)
      refine qm_setI h (fun a3_9 h => ?_)
      refine qm_letI h (fun x3_10 h => ?_)
      exact ih _ _ _ _ _ _ _ _ _ _ _ _ _ _ _ _ h
def qm_sortRotations_107 (post : qb_P) (J38 : qb_J6) (J70 : qb_J2) (x1 x2 x3 fa fb fc fd fe : Int32) (a1 a2 a3 a4 a5 a6 a7 a8 a9 a10 a11 a12 : List Int32) (a13 : List Int64) (a14 a15 : List Int32) : Bool := qm_in x3 32 && (qm_in (qm_r a2 x3.toNatClampNeg) 32 && (qm_set a4 (qm_r a2 x3.toNatClampNeg).toNatClampNeg x2.toInt8.toInt32 (fun a4_14 => qm_let (x3 + 1) (fun x3_15 => J70 x2 x3_15 a1 a2 a3 a4_14 a5 a6 a7 a8 a9 a10 a11 a12 a13 a14 a15))))
theorem qs_sortRotations_107 {b_post : qb_P} {post : St2 → Prop} {b_J38 : qb_J6} {J38 : Int32 → Int32 → Int32 → Int32 → Int32 → Int32 → (Nat → Int32) → (Nat → Int32) → (Nat → Int32) → (Nat → Int32) → (Nat → Int32) → (Nat → Int32) → (Nat → Int32) → (Nat → Int32) → (Nat → Int32) → (Nat → Int32) → (Nat → Int32) → (Nat → Int32) → (Nat → Int64) → (Nat → Int32) → (Nat → Int32) → Prop} {b_J70 : qb_J2} {J70 : Int32 → Int32 → (Nat → Int32) → (Nat → Int32) → (Nat → Int32) → (Nat → Int32) → (Nat → Int32) → (Nat → Int32) → (Nat → Int32) → (Nat → Int32) → (Nat → Int32) → (Nat → Int32) → (Nat → Int32) → (Nat → Int32) → (Nat → Int64) → (Nat → Int32) → (Nat → Int32) → Prop} {x1 x2 x3 fa fb fc fd fe : Int32} {a1 a2 a3 a4 a5 a6 a7 a8 a9 a10 a11 a12 : List Int32} {a13 : List Int64} {a14 a15 : List Int32} (h_post : qp_P b_post post) (h_J38 : qp_J6 b_J38 J38) (h_J70 : qp_J2 b_J70 J70) (h : qm_sortRotations_107 b_post b_J38 b_J70 x1 x2 x3 fa fb fc fd fe a1 a2 a3 a4 a5 a6 a7 a8 a9 a10 a11 a12 a13 a14 a15 = true) : wX_sortRotations_107 post J38 J70 x1 x2 x3 fa fb fc fd fe (qm_r a1) (qm_r a2) (qm_r a3) (qm_r a4) (qm_r a5) (qm_r a6) (qm_r a7) (qm_r a8) (qm_r a9) (qm_r a10) (qm_r a11) (qm_r a12) (qm_rL a13) (qm_r a14) (qm_r a15) := by
  refine qm_inI h (fun h => ?_)
  refine qm_inI h (fun h => ?_)
  refine qm_setI h (fun a4_14 h => ?_)
  refine qm_letI h (fun x3_15 h => ?_)
  exact h_J70 _ _ _ _ _ _ _ _ _ _ _ _ _ _ _ _ _ h
def qm_sortRotations_70 (post : qb_P) (J38 : qb_J6) (x1 fa fb fc fd fe : Int32) : Nat → Int32 → Int32 → List Int32 → List Int32 → List Int32 → List Int32 → List Int32 → List Int32 → List Int32 → List Int32 → List Int32 → List Int32 → List Int32 → List Int32 → List Int64 → List Int32 → List Int32 → Bool
  | 0 => fun _ _ _ _ _ _ _ _ _ _ _ _ _ _ _ _ _ => false
  | n + 1 => fun x2 x3 a1 a2 a3 a4 a5 a6 a7 a8 a9 a10 a11 a12 a13 a14 a15 => if fa ≤ x3 then (qm_sortRotations_128 post J38 x1 fa fb fc fd fe 40 0 a1 a2 a3 a4 a5 a6 a7 a8 a9 a10 a11 a12 a13 a14 a15) else (if x3 ≤ 0 then (qm_sortRotations_107 post J38 (qm_sortRotations_70 post J38 x1 fa fb fc fd fe n) x1 x2 x3 fa fb fc fd fe a1 a2 a3 a4 a5 a6 a7 a8 a9 a10 a11 a12 a13 a14 a15) else (qm_in (x3 - 1) 32 && (qm_in x3 32 && (qm_compare (fun r_18 => if r_18 = 0 then (qm_sortRotations_107 post J38 (qm_sortRotations_70 post J38 x1 fa fb fc fd fe n) x1 x2 x3 fa fb fc fd fe a1 a2 a3 a4 a5 a6 a7 a8 a9 a10 a11 a12 a13 a14 a15) else (qm_let (x2 + 1) (fun x2_20 => qm_sortRotations_107 post J38 (qm_sortRotations_70 post J38 x1 fa fb fc fd fe n) x1 x2_20 x3 fa fb fc fd fe a1 a2 a3 a4 a5 a6 a7 a8 a9 a10 a11 a12 a13 a14 a15))) fa fb fc fd fe a1 a2 a3 a4 a5 a6 a7 a8 a9 a10 a11 a12 a13 a14 a15 (qm_r a2 (x3 - 1).toNatClampNeg) (qm_r a2 x3.toNatClampNeg) x1))))
theorem qs_sortRotations_70 {b_post : qb_P} {post : St2 → Prop} {b_J38 : qb_J6} {J38 : Int32 → Int32 → Int32 → Int32 → Int32 → Int32 → (Nat → Int32) → (Nat → Int32) → (Nat → Int32) → (Nat → Int32) → (Nat → Int32) → (Nat → Int32) → (Nat → Int32) → (Nat → Int32) → (Nat → Int32) → (Nat → Int32) → (Nat → Int32) → (Nat → Int32) → (Nat → Int64) → (Nat → Int32) → (Nat → Int32) → Prop} {x1 fa fb fc fd fe : Int32} (h_post : qp_P b_post post) (h_J38 : qp_J6 b_J38 J38) : ∀ (n : Nat) (x2 x3 : Int32) (a1 a2 a3 a4 a5 a6 a7 a8 a9 a10 a11 a12 : List Int32) (a13 : List Int64) (a14 a15 : List Int32), qm_sortRotations_70 b_post b_J38 x1 fa fb fc fd fe n x2 x3 a1 a2 a3 a4 a5 a6 a7 a8 a9 a10 a11 a12 a13 a14 a15 = true → wX_sortRotations_70 post J38 x1 fa fb fc fd fe n x2 x3 (qm_r a1) (qm_r a2) (qm_r a3) (qm_r a4) (qm_r a5) (qm_r a6) (qm_r a7) (qm_r a8) (qm_r a9) (qm_r a10) (qm_r a11) (qm_r a12) (qm_rL a13) (qm_r a14) (qm_r a15) := by
  intro n
  induction n with
  | zero => exact fun _ _ _ _ _ _ _ _ _ _ _ _ _ _ _ _ _ h => absurd h Bool.false_ne_true
  | succ n ih =>
    intro x2 x3 a1 a2 a3 a4 a5 a6 a7 a8 a9 a10 a11 a12 a13 a14 a15 h
    refine qm_iteI h (fun h => ?_) (fun h => ?_)
    · refine ⟨40, ?_⟩
      exact qs_sortRotations_128 h_post h_J38 _ _ _ _ _ _ _ _ _ _ _ _ _ _ _ _ _ h
    · refine qm_iteI h (fun h => ?_) (fun h => ?_)
      · exact qs_sortRotations_107 h_post h_J38 ih h
      · refine qm_inI h (fun h => ?_)
        refine qm_inI h (fun h => ?_)
        refine qs_compare (fun r_18 h => ?_) h
        refine qm_iteI h (fun h => ?_) (fun h => ?_)
        · exact qs_sortRotations_107 h_post h_J38 ih h
        · refine qm_letI h (fun x2_20 h => ?_)
          exact qs_sortRotations_107 h_post h_J38 ih h
def qm_sortRotations_46 (post : qb_P) (J38 : qb_J6) (x1 : Int32) : Nat → Int32 → Int32 → Int32 → Int32 → Int32 → Int32 → List Int32 → List Int32 → List Int32 → List Int32 → List Int32 → List Int32 → List Int32 → List Int32 → List Int32 → List Int32 → List Int32 → List Int32 → List Int64 → List Int32 → List Int32 → Bool
  | 0 => fun _ _ _ _ _ _ _ _ _ _ _ _ _ _ _ _ _ _ _ _ _ => false
  | n + 1 => fun x2 fa fb fc fd fe a1 a2 a3 a4 a5 a6 a7 a8 a9 a10 a11 a12 a13 a14 a15 => if fa ≤ x2 then (qm_sortRotations_70 post J38 x1 fa fb fc fd fe 40 0 0 a1 a2 a3 a4 a5 a6 a7 a8 a9 a10 a11 a12 a13 a14 a15) else (qm_sink (fun fa_22 fb_23 fc_24 fd_25 fe_26 am571_29 am572_32 am573_35 am574_38 am575_41 am576_44 am577_47 am578_50 am579_53 am5710_56 am5711_59 am5712_62 am5713_65 am5714_68 am5715_71 => qm_let (x2 + 1) (fun x2_72 => qm_sortRotations_46 post J38 x1 n x2_72 fa_22 fb_23 fc_24 fd_25 fe_26 am571_29 am572_32 am573_35 am574_38 am575_41 am576_44 am577_47 am578_50 am579_53 am5710_56 am5711_59 am5712_62 am5713_65 am5714_68 am5715_71)) fa fb fc fd fe a1 a2 a3 a4 a5 a6 a7 a8 a9 a10 a11 a12 a13 a14 a15 x2 x1)
theorem qs_sortRotations_46 {b_post : qb_P} {post : St2 → Prop} {b_J38 : qb_J6} {J38 : Int32 → Int32 → Int32 → Int32 → Int32 → Int32 → (Nat → Int32) → (Nat → Int32) → (Nat → Int32) → (Nat → Int32) → (Nat → Int32) → (Nat → Int32) → (Nat → Int32) → (Nat → Int32) → (Nat → Int32) → (Nat → Int32) → (Nat → Int32) → (Nat → Int32) → (Nat → Int64) → (Nat → Int32) → (Nat → Int32) → Prop} {x1 : Int32} (h_post : qp_P b_post post) (h_J38 : qp_J6 b_J38 J38) : ∀ (n : Nat) (x2 fa fb fc fd fe : Int32) (a1 a2 a3 a4 a5 a6 a7 a8 a9 a10 a11 a12 : List Int32) (a13 : List Int64) (a14 a15 : List Int32), qm_sortRotations_46 b_post b_J38 x1 n x2 fa fb fc fd fe a1 a2 a3 a4 a5 a6 a7 a8 a9 a10 a11 a12 a13 a14 a15 = true → wX_sortRotations_46 post J38 x1 n x2 fa fb fc fd fe (qm_r a1) (qm_r a2) (qm_r a3) (qm_r a4) (qm_r a5) (qm_r a6) (qm_r a7) (qm_r a8) (qm_r a9) (qm_r a10) (qm_r a11) (qm_r a12) (qm_rL a13) (qm_r a14) (qm_r a15) := by
  intro n
  induction n with
  | zero => exact fun _ _ _ _ _ _ _ _ _ _ _ _ _ _ _ _ _ _ _ _ _ h => absurd h Bool.false_ne_true
  | succ n ih =>
    intro x2 fa fb fc fd fe a1 a2 a3 a4 a5 a6 a7 a8 a9 a10 a11 a12 a13 a14 a15 h
    refine qm_iteI h (fun h => ?_) (fun h => ?_)
    · refine ⟨40, ?_⟩
      exact qs_sortRotations_70 h_post h_J38 _ _ _ _ _ _ _ _ _ _ _ _ _ _ _ _ _ _ h
    · refine qs_sink (fun fa_22 fb_23 fc_24 fd_25 fe_26 am571_29 am572_32 am573_35 am574_38 am575_41 am576_44 am577_47 am578_50 am579_53 am5710_56 am5711_59 am5712_62 am5713_65 am5714_68 am5715_71 h => ?_) h
      refine qm_letI h (fun x2_72 h => ?_)
      exact ih _ _ _ _ _ _ _ _ _ _ _ _ _ _ _ _ _ _ _ _ _ h
def qm_sortRotations_38 (post : qb_P) : Nat → Int32 → Int32 → Int32 → Int32 → Int32 → Int32 → List Int32 → List Int32 → List Int32 → List Int32 → List Int32 → List Int32 → List Int32 → List Int32 → List Int32 → List Int32 → List Int32 → List Int32 → List Int64 → List Int32 → List Int32 → Bool
  | 0 => fun _ _ _ _ _ _ _ _ _ _ _ _ _ _ _ _ _ _ _ _ _ => false
  | n + 1 => fun x1 fa fb fc fd fe a1 a2 a3 a4 a5 a6 a7 a8 a9 a10 a11 a12 a13 a14 a15 => if 64 ≤ x1 then (post fa fb fc fd fe a1 a2 a3 a4 a5 a6 a7 a8 a9 a10 a11 a12 a13 a14 a15) else (qm_sortRotations_46 post (qm_sortRotations_38 post n) x1 40 1 fa fb fc fd fe a1 a2 a3 a4 a5 a6 a7 a8 a9 a10 a11 a12 a13 a14 a15)
theorem qs_sortRotations_38 {b_post : qb_P} {post : St2 → Prop} (h_post : qp_P b_post post) : ∀ (n : Nat) (x1 fa fb fc fd fe : Int32) (a1 a2 a3 a4 a5 a6 a7 a8 a9 a10 a11 a12 : List Int32) (a13 : List Int64) (a14 a15 : List Int32), qm_sortRotations_38 b_post n x1 fa fb fc fd fe a1 a2 a3 a4 a5 a6 a7 a8 a9 a10 a11 a12 a13 a14 a15 = true → wX_sortRotations_38 post n x1 fa fb fc fd fe (qm_r a1) (qm_r a2) (qm_r a3) (qm_r a4) (qm_r a5) (qm_r a6) (qm_r a7) (qm_r a8) (qm_r a9) (qm_r a10) (qm_r a11) (qm_r a12) (qm_rL a13) (qm_r a14) (qm_r a15) := by
  intro n
  induction n with
  | zero => exact fun _ _ _ _ _ _ _ _ _ _ _ _ _ _ _ _ _ _ _ _ _ h => absurd h Bool.false_ne_true
  | succ n ih =>
    intro x1 fa fb fc fd fe a1 a2 a3 a4 a5 a6 a7 a8 a9 a10 a11 a12 a13 a14 a15 h
    refine qm_iteI h (fun h => ?_) (fun h => ?_)
    · exact h_post _ _ _ _ _ _ _ _ _ _ _ _ _ _ _ _ _ _ _ _ h
    · refine ⟨40, ?_⟩
      exact qs_sortRotations_46 h_post ih _ _ _ _ _ _ _ _ _ _ _ _ _ _ _ _ _ _ _ _ _ _ h
def qm_sortRotations_2 (post : qb_P) (fa fb fc fd fe : Int32) : Nat → Int32 → List Int32 → List Int32 → List Int32 → List Int32 → List Int32 → List Int32 → List Int32 → List Int32 → List Int32 → List Int32 → List Int32 → List Int32 → List Int64 → List Int32 → List Int32 → Bool
  | 0 => fun _ _ _ _ _ _ _ _ _ _ _ _ _ _ _ _ => false
  | n + 1 => fun x1 a1 a2 a3 a4 a5 a6 a7 a8 a9 a10 a11 a12 a13 a14 a15 => if fa ≤ x1 then (qm_sortRotations_38 post 40 1 fa fb fc fd fe a1 a2 a3 a4 a5 a6 a7 a8 a9 a10 a11 a12 a13 a14 a15) else (qm_in x1 32 && (qm_set a2 x1.toNatClampNeg x1.toInt8.toInt32 (fun a2_74 => qm_in x1 32 && (qm_in x1 32 && (qm_set a3 x1.toNatClampNeg (vp_nar .byte (qm_r a1 x1.toNatClampNeg)) (fun a3_77 => qm_let (x1 + 1) (fun x1_78 => qm_sortRotations_2 post fa fb fc fd fe n x1_78 a1 a2_74 a3_77 a4 a5 a6 a7 a8 a9 a10 a11 a12 a13 a14 a15)))))))
theorem qs_sortRotations_2 {b_post : qb_P} {post : St2 → Prop} {fa fb fc fd fe : Int32} (h_post : qp_P b_post post) : ∀ (n : Nat) (x1 : Int32) (a1 a2 a3 a4 a5 a6 a7 a8 a9 a10 a11 a12 : List Int32) (a13 : List Int64) (a14 a15 : List Int32), qm_sortRotations_2 b_post fa fb fc fd fe n x1 a1 a2 a3 a4 a5 a6 a7 a8 a9 a10 a11 a12 a13 a14 a15 = true → wX_sortRotations_2 post fa fb fc fd fe n x1 (qm_r a1) (qm_r a2) (qm_r a3) (qm_r a4) (qm_r a5) (qm_r a6) (qm_r a7) (qm_r a8) (qm_r a9) (qm_r a10) (qm_r a11) (qm_r a12) (qm_rL a13) (qm_r a14) (qm_r a15) := by
  intro n
  induction n with
  | zero => exact fun _ _ _ _ _ _ _ _ _ _ _ _ _ _ _ _ h => absurd h Bool.false_ne_true
  | succ n ih =>
    intro x1 a1 a2 a3 a4 a5 a6 a7 a8 a9 a10 a11 a12 a13 a14 a15 h
    refine qm_iteI h (fun h => ?_) (fun h => ?_)
    · refine ⟨40, ?_⟩
      exact qs_sortRotations_38 h_post _ _ _ _ _ _ _ _ _ _ _ _ _ _ _ _ _ _ _ _ _ _ h
    · refine qm_inI h (fun h => ?_)
      refine qm_setI h (fun a2_74 h => ?_)
      refine qm_inI h (fun h => ?_)
      refine qm_inI h (fun h => ?_)
      refine qm_setI h (fun a3_77 h => ?_)
      refine qm_letI h (fun x1_78 h => ?_)
      exact ih _ _ _ _ _ _ _ _ _ _ _ _ _ _ _ _ h
def qm_sortRotations (post : qb_P) (fa fb fc fd fe : Int32) (a1 a2 a3 a4 a5 a6 a7 a8 a9 a10 a11 a12 : List Int32) (a13 : List Int64) (a14 a15 : List Int32) : Bool := qm_sortRotations_2 post fa fb fc fd fe 40 0 a1 a2 a3 a4 a5 a6 a7 a8 a9 a10 a11 a12 a13 a14 a15
theorem qs_sortRotations {b_post : qb_P} {post : St2 → Prop} {fa fb fc fd fe : Int32} {a1 a2 a3 a4 a5 a6 a7 a8 a9 a10 a11 a12 : List Int32} {a13 : List Int64} {a14 a15 : List Int32} (h_post : qp_P b_post post) (h : qm_sortRotations b_post fa fb fc fd fe a1 a2 a3 a4 a5 a6 a7 a8 a9 a10 a11 a12 a13 a14 a15 = true) : wpX_sortRotations post (fa, fb, fc, fd, fe, qm_r a1, qm_r a2, qm_r a3, qm_r a4, qm_r a5, qm_r a6, qm_r a7, qm_r a8, qm_r a9, qm_r a10, qm_r a11, qm_r a12, qm_rL a13, qm_r a14, qm_r a15) := by
  refine ⟨40, ?_⟩
  exact qs_sortRotations_2 h_post _ _ _ _ _ _ _ _ _ _ _ _ _ _ _ _ _ h
end
section
/-! printed by gen.py: the twins of addSymbol, rankLetters, resetRow, shortenRuns, toFront and their rows -/
def qm_resetRow_2 (post : qb_P) (fa fb fc fd fe : Int32) : Nat → Int32 → List Int32 → List Int32 → List Int32 → List Int32 → List Int32 → List Int32 → List Int32 → List Int32 → List Int32 → List Int32 → List Int32 → List Int32 → List Int64 → List Int32 → List Int32 → Bool
  | 0 => fun _ _ _ _ _ _ _ _ _ _ _ _ _ _ _ _ => false
  | n + 1 => fun x1 a1 a2 a3 a4 a5 a6 a7 a8 a9 a10 a11 a12 a13 a14 a15 => if 6 ≤ x1 then (post fa fb fc fd fe a1 a2 a3 a4 a5 a6 a7 a8 a9 a10 a11 a12 a13 a14 a15) else (qm_in x1 6 && (qm_set a8 x1.toNatClampNeg x1.toInt8.toInt32 (fun a8_3 => qm_let (x1 + 1) (fun x1_4 => qm_resetRow_2 post fa fb fc fd fe n x1_4 a1 a2 a3 a4 a5 a6 a7 a8_3 a9 a10 a11 a12 a13 a14 a15))))
theorem qs_resetRow_2 {b_post : qb_P} {post : St2 → Prop} {fa fb fc fd fe : Int32} (h_post : qp_P b_post post) : ∀ (n : Nat) (x1 : Int32) (a1 a2 a3 a4 a5 a6 a7 a8 a9 a10 a11 a12 : List Int32) (a13 : List Int64) (a14 a15 : List Int32), qm_resetRow_2 b_post fa fb fc fd fe n x1 a1 a2 a3 a4 a5 a6 a7 a8 a9 a10 a11 a12 a13 a14 a15 = true → wX_resetRow_2 post fa fb fc fd fe n x1 (qm_r a1) (qm_r a2) (qm_r a3) (qm_r a4) (qm_r a5) (qm_r a6) (qm_r a7) (qm_r a8) (qm_r a9) (qm_r a10) (qm_r a11) (qm_r a12) (qm_rL a13) (qm_r a14) (qm_r a15) := by
  intro n
  induction n with
  | zero => exact fun _ _ _ _ _ _ _ _ _ _ _ _ _ _ _ _ h => absurd h Bool.false_ne_true
  | succ n ih =>
    intro x1 a1 a2 a3 a4 a5 a6 a7 a8 a9 a10 a11 a12 a13 a14 a15 h
    refine qm_iteI h (fun h => ?_) (fun h => ?_)
    · exact h_post _ _ _ _ _ _ _ _ _ _ _ _ _ _ _ _ _ _ _ _ h
    · refine qm_inI h (fun h => ?_)
      refine qm_setI h (fun a8_3 h => ?_)
      refine qm_letI h (fun x1_4 h => ?_)
      exact ih _ _ _ _ _ _ _ _ _ _ _ _ _ _ _ _ h
def qm_resetRow (post : qb_P) (fa fb fc fd fe : Int32) (a1 a2 a3 a4 a5 a6 a7 a8 a9 a10 a11 a12 : List Int32) (a13 : List Int64) (a14 a15 : List Int32) : Bool := qm_resetRow_2 post fa fb fc fd fe 40 0 a1 a2 a3 a4 a5 a6 a7 a8 a9 a10 a11 a12 a13 a14 a15
theorem qs_resetRow {b_post : qb_P} {post : St2 → Prop} {fa fb fc fd fe : Int32} {a1 a2 a3 a4 a5 a6 a7 a8 a9 a10 a11 a12 : List Int32} {a13 : List Int64} {a14 a15 : List Int32} (h_post : qp_P b_post post) (h : qm_resetRow b_post fa fb fc fd fe a1 a2 a3 a4 a5 a6 a7 a8 a9 a10 a11 a12 a13 a14 a15 = true) : wpX_resetRow post (fa, fb, fc, fd, fe, qm_r a1, qm_r a2, qm_r a3, qm_r a4, qm_r a5, qm_r a6, qm_r a7, qm_r a8, qm_r a9, qm_r a10, qm_r a11, qm_r a12, qm_rL a13, qm_r a14, qm_r a15) := by
  refine ⟨40, ?_⟩
  exact qs_resetRow_2 h_post _ _ _ _ _ _ _ _ _ _ _ _ _ _ _ _ _ h
def qm_toFront_9 (post : qb_P) (x2 fa fb fc fd fe : Int32) : Nat → Int32 → List Int32 → List Int32 → List Int32 → List Int32 → List Int32 → List Int32 → List Int32 → List Int32 → List Int32 → List Int32 → List Int32 → List Int32 → List Int64 → List Int32 → List Int32 → Bool
  | 0 => fun _ _ _ _ _ _ _ _ _ _ _ _ _ _ _ _ => false
  | n + 1 => fun x3 a1 a2 a3 a4 a5 a6 a7 a8 a9 a10 a11 a12 a13 a14 a15 => if x3 ≤ 0 then (qm_set a8 0 (vp_nar .byte x2) (fun a8_5 => post fa fb fc fd fe a1 a2 a3 a4 a5 a6 a7 a8_5 a9 a10 a11 a12 a13 a14 a15)) else (qm_in (x3 - 1) 6 && (qm_in x3 6 && (qm_set a8 x3.toNatClampNeg (vp_nar .byte (qm_r a8 (x3 - 1).toNatClampNeg)) (fun a8_8 => qm_let (x3 + (-1)) (fun x3_9 => qm_toFront_9 post x2 fa fb fc fd fe n x3_9 a1 a2 a3 a4 a5 a6 a7 a8_8 a9 a10 a11 a12 a13 a14 a15)))))
theorem qs_toFront_9 {b_post : qb_P} {post : St2 → Prop} {x2 fa fb fc fd fe : Int32} (h_post : qp_P b_post post) : ∀ (n : Nat) (x3 : Int32) (a1 a2 a3 a4 a5 a6 a7 a8 a9 a10 a11 a12 : List Int32) (a13 : List Int64) (a14 a15 : List Int32), qm_toFront_9 b_post x2 fa fb fc fd fe n x3 a1 a2 a3 a4 a5 a6 a7 a8 a9 a10 a11 a12 a13 a14 a15 = true → wX_toFront_9 post x2 fa fb fc fd fe n x3 (qm_r a1) (qm_r a2) (qm_r a3) (qm_r a4) (qm_r a5) (qm_r a6) (qm_r a7) (qm_r a8) (qm_r a9) (qm_r a10) (qm_r a11) (qm_r a12) (qm_rL a13) (qm_r a14) (qm_r a15) := by
  intro n
  induction n with
  | zero => exact fun _ _ _ _ _ _ _ _ _ _ _ _ _ _ _ _ h => absurd h Bool.false_ne_true
  | succ n ih =>
    intro x3 a1 a2 a3 a4 a5 a6 a7 a8 a9 a10 a11 a12 a13 a14 a15 h
    refine qm_iteI h (fun h => ?_) (fun h => ?_)
    · refine qm_setI h (fun a8_5 h => ?_)
      exact h_post _ _ _ _ _ _ _ _ _ _ _ _ _ _ _ _ _ _ _ _ h
    · refine qm_inI h (fun h => ?_)
      refine qm_inI h (fun h => ?_)
      refine qm_setI h (fun a8_8 h => ?_)
      refine qm_letI h (fun x3_9 h => ?_)
      exact ih _ _ _ _ _ _ _ _ _ _ _ _ _ _ _ _ h
def qm_toFront (post : qb_P) (fa fb fc fd fe : Int32) (a1 a2 a3 a4 a5 a6 a7 a8 a9 a10 a11 a12 : List Int32) (a13 : List Int64) (a14 a15 : List Int32) (p0 : Int32) : Bool := qm_in p0 6 && (qm_let (qm_r a8 p0.toNatClampNeg) (fun x2_2 => qm_toFront_9 post x2_2 fa fb fc fd fe 40 p0 a1 a2 a3 a4 a5 a6 a7 a8 a9 a10 a11 a12 a13 a14 a15))
theorem qs_toFront {b_post : qb_P} {post : St2 → Prop} {fa fb fc fd fe : Int32} {a1 a2 a3 a4 a5 a6 a7 a8 a9 a10 a11 a12 : List Int32} {a13 : List Int64} {a14 a15 : List Int32} {p0 : Int32} (h_post : qp_P b_post post) (h : qm_toFront b_post fa fb fc fd fe a1 a2 a3 a4 a5 a6 a7 a8 a9 a10 a11 a12 a13 a14 a15 p0 = true) : wpX_toFront post (fa, fb, fc, fd, fe, qm_r a1, qm_r a2, qm_r a3, qm_r a4, qm_r a5, qm_r a6, qm_r a7, qm_r a8, qm_r a9, qm_r a10, qm_r a11, qm_r a12, qm_rL a13, qm_r a14, qm_r a15) p0 := by
  refine qm_inI h (fun h => ?_)
  refine qm_letI h (fun x2_2 h => ?_)
  refine ⟨40, ?_⟩
  exact qs_toFront_9 h_post _ _ _ _ _ _ _ _ _ _ _ _ _ _ _ _ _ h
def qm_rankLetters_16 (post : qb_P) (J6 : qb_J6) (x1 fa fb fc fd fe : Int32) (am11 am12 am13 am14 am15 am16 am17 am18 am19 am110 am111 am112 : List Int32) (am113 : List Int64) (am114 am115 : List Int32) : Nat → Int32 → Bool
  | 0 => fun _ => false
  | n + 1 => fun x2 => qm_in x2 6 && (qm_in x1 32 && (if (qm_r am18 x2.toNatClampNeg) = (qm_r am15 x1.toNatClampNeg) then (qm_in x1 32 && (qm_set am16 x1.toNatClampNeg x2.toInt8.toInt32 (fun am16_57 => qm_toFront (fun fa_59 fb_60 fc_61 fd_62 fe_63 am471_66 am472_69 am473_72 am474_75 am475_78 am476_81 am477_84 am478_87 am479_90 am4710_93 am4711_96 am4712_99 am4713_102 am4714_105 am4715_108 => qm_let (x1 + 1) (fun x1_109 => J6 x1_109 fa_59 fb_60 fc_61 fd_62 fe_63 am471_66 am472_69 am473_72 am474_75 am475_78 am476_81 am477_84 am478_87 am479_90 am4710_93 am4711_96 am4712_99 am4713_102 am4714_105 am4715_108)) fa fb fc fd fe am11 am12 am13 am14 am15 am16_57 am17 am18 am19 am110 am111 am112 am113 am114 am115 x2))) else (qm_let (x2 + 1) (fun x2_110 => qm_rankLetters_16 post J6 x1 fa fb fc fd fe am11 am12 am13 am14 am15 am16 am17 am18 am19 am110 am111 am112 am113 am114 am115 n x2_110))))
theorem qs_rankLetters_16 {b_post : qb_P} {post : St2 → Prop} {b_J6 : qb_J6} {J6 : Int32 → Int32 → Int32 → Int32 → Int32 → Int32 → (Nat → Int32) → (Nat → Int32) → (Nat → Int32) → (Nat → Int32) → (Nat → Int32) → (Nat → Int32) → (Nat → Int32) → (Nat → Int32) → (Nat → Int32) → (Nat → Int32) → (Nat → Int32) → (Nat → Int32) → (Nat → Int64) → (Nat → Int32) → (Nat → Int32) → Prop} {x1 fa fb fc fd fe : Int32} {am11 am12 am13 am14 am15 am16 am17 am18 am19 am110 am111 am112 : List Int32} {am113 : List Int64} {am114 am115 : List Int32} (h_post : qp_P b_post post) (h_J6 : qp_J6 b_J6 J6) : ∀ (n : Nat) (x2 : Int32), qm_rankLetters_16 b_post b_J6 x1 fa fb fc fd fe am11 am12 am13 am14 am15 am16 am17 am18 am19 am110 am111 am112 am113 am114 am115 n x2 = true → wX_rankLetters_16 post J6 x1 fa fb fc fd fe (qm_r am11) (qm_r am12) (qm_r am13) (qm_r am14) (qm_r am15) (qm_r am16) (qm_r am17) (qm_r am18) (qm_r am19) (qm_r am110) (qm_r am111) (qm_r am112) (qm_rL am113) (qm_r am114) (qm_r am115) n x2 := by
  intro n
  induction n with
  | zero => exact fun _ h => absurd h Bool.false_ne_true
  | succ n ih =>
    intro x2 h
    refine qm_inI h (fun h => ?_)
    refine qm_inI h (fun h => ?_)
    refine qm_iteI h (fun h => ?_) (fun h => ?_)
    · refine qm_inI h (fun h => ?_)
      refine qm_setI h (fun am16_57 h => ?_)
      refine qs_toFront (fun fa_59 fb_60 fc_61 fd_62 fe_63 am471_66 am472_69 am473_72 am474_75 am475_78 am476_81 am477_84 am478_87 am479_90 am4710_93 am4711_96 am4712_99 am4713_102 am4714_105 am4715_108 h => ?_) h
      refine qm_letI h (fun x1_109 h => ?_)
      exact h_J6 _ _ _ _ _ _ _ _ _ _ _ _ _ _ _ _ _ _ _ _ _ h
    · refine qm_letI h (fun x2_110 h => ?_)
      exact ih _ h
def qm_rankLetters_6 (post : qb_P) : Nat → Int32 → Int32 → Int32 → Int32 → Int32 → Int32 → List Int32 → List Int32 → List Int32 → List Int32 → List Int32 → List Int32 → List Int32 → List Int32 → List Int32 → List Int32 → List Int32 → List Int32 → List Int64 → List Int32 → List Int32 → Bool
  | 0 => fun _ _ _ _ _ _ _ _ _ _ _ _ _ _ _ _ _ _ _ _ _ => false
  | n + 1 => fun x1 fa fb fc fd fe am11 am12 am13 am14 am15 am16 am17 am18 am19 am110 am111 am112 am113 am114 am115 => if fa ≤ x1 then (post fa fb fc fd fe am11 am12 am13 am14 am15 am16 am17 am18 am19 am110 am111 am112 am113 am114 am115) else (qm_rankLetters_16 post (qm_rankLetters_6 post n) x1 fa fb fc fd fe am11 am12 am13 am14 am15 am16 am17 am18 am19 am110 am111 am112 am113 am114 am115 40 0)
theorem qs_rankLetters_6 {b_post : qb_P} {post : St2 → Prop} (h_post : qp_P b_post post) : ∀ (n : Nat) (x1 fa fb fc fd fe : Int32) (am11 am12 am13 am14 am15 am16 am17 am18 am19 am110 am111 am112 : List Int32) (am113 : List Int64) (am114 am115 : List Int32), qm_rankLetters_6 b_post n x1 fa fb fc fd fe am11 am12 am13 am14 am15 am16 am17 am18 am19 am110 am111 am112 am113 am114 am115 = true → wX_rankLetters_6 post n x1 fa fb fc fd fe (qm_r am11) (qm_r am12) (qm_r am13) (qm_r am14) (qm_r am15) (qm_r am16) (qm_r am17) (qm_r am18) (qm_r am19) (qm_r am110) (qm_r am111) (qm_r am112) (qm_rL am113) (qm_r am114) (qm_r am115) := by
  intro n
  induction n with
  | zero => exact fun _ _ _ _ _ _ _ _ _ _ _ _ _ _ _ _ _ _ _ _ _ h => absurd h Bool.false_ne_true
  | succ n ih =>
    intro x1 fa fb fc fd fe am11 am12 am13 am14 am15 am16 am17 am18 am19 am110 am111 am112 am113 am114 am115 h
    refine qm_iteI h (fun h => ?_) (fun h => ?_)
    · exact h_post _ _ _ _ _ _ _ _ _ _ _ _ _ _ _ _ _ _ _ _ h
    · refine ⟨40, ?_⟩
      exact qs_rankLetters_16 h_post ih _ _ h
def qm_rankLetters (post : qb_P) (fa fb fc fd fe : Int32) (a1 a2 a3 a4 a5 a6 a7 a8 a9 a10 a11 a12 : List Int32) (a13 : List Int64) (a14 a15 : List Int32) : Bool := qm_resetRow (fun fa_2 fb_3 fc_4 fd_5 fe_6 am11_9 am12_12 am13_15 am14_18 am15_21 am16_24 am17_27 am18_30 am19_33 am110_36 am111_39 am112_42 am113_45 am114_48 am115_51 => qm_rankLetters_6 post 40 0 fa_2 fb_3 fc_4 fd_5 fe_6 am11_9 am12_12 am13_15 am14_18 am15_21 am16_24 am17_27 am18_30 am19_33 am110_36 am111_39 am112_42 am113_45 am114_48 am115_51) fa fb fc fd fe a1 a2 a3 a4 a5 a6 a7 a8 a9 a10 a11 a12 a13 a14 a15
theorem qs_rankLetters {b_post : qb_P} {post : St2 → Prop} {fa fb fc fd fe : Int32} {a1 a2 a3 a4 a5 a6 a7 a8 a9 a10 a11 a12 : List Int32} {a13 : List Int64} {a14 a15 : List Int32} (h_post : qp_P b_post post) (h : qm_rankLetters b_post fa fb fc fd fe a1 a2 a3 a4 a5 a6 a7 a8 a9 a10 a11 a12 a13 a14 a15 = true) : wpX_rankLetters post (fa, fb, fc, fd, fe, qm_r a1, qm_r a2, qm_r a3, qm_r a4, qm_r a5, qm_r a6, qm_r a7, qm_r a8, qm_r a9, qm_r a10, qm_r a11, qm_r a12, qm_rL a13, qm_r a14, qm_r a15) := by
  unfold wpX_rankLetters
  unfold qm_rankLetters at h
  refine qs_resetRow (fun fa_2 fb_3 fc_4 fd_5 fe_6 am11_9 am12_12 am13_15 am14_18 am15_21 am16_24 am17_27 am18_30 am19_33 am110_36 am111_39 am112_42 am113_45 am114_48 am115_51 h => ?_) h
  refine ⟨40, ?_⟩
  exact qs_rankLetters_6 h_post _ _ _ _ _ _ _ _ _ _ _ _ _ _ _ _ _ _ _ _ _ _ h
def qm_addSymbol (post : qb_P) (fa fb fc fd fe : Int32) (a1 a2 a3 a4 a5 a6 a7 a8 a9 a10 a11 a12 : List Int32) (a13 : List Int64) (a14 a15 : List Int32) (p0 : Int32) : Bool := qm_in fd 32 && (qm_set a7 fd.toNatClampNeg p0.toInt8.toInt32 (fun a7_2 => qm_let (fd + 1) (fun f_3 => post fa fb fc f_3 fe a1 a2 a3 a4 a5 a6 a7_2 a8 a9 a10 a11 a12 a13 a14 a15)))
theorem qs_addSymbol {b_post : qb_P} {post : St2 → Prop} {fa fb fc fd fe : Int32} {a1 a2 a3 a4 a5 a6 a7 a8 a9 a10 a11 a12 : List Int32} {a13 : List Int64} {a14 a15 : List Int32} {p0 : Int32} (h_post : qp_P b_post post) (h : qm_addSymbol b_post fa fb fc fd fe a1 a2 a3 a4 a5 a6 a7 a8 a9 a10 a11 a12 a13 a14 a15 p0 = true) : wpX_addSymbol post (fa, fb, fc, fd, fe, qm_r a1, qm_r a2, qm_r a3, qm_r a4, qm_r a5, qm_r a6, qm_r a7, qm_r a8, qm_r a9, qm_r a10, qm_r a11, qm_r a12, qm_rL a13, qm_r a14, qm_r a15) p0 := by
  refine qm_inI h (fun h => ?_)
  refine qm_setI h (fun a7_2 h => ?_)
  refine qm_letI h (fun f_3 h => ?_)
  exact h_post _ _ _ _ _ _ _ _ _ _ _ _ _ _ _ _ _ _ _ _ h
def qm_shortenRuns_66 (post : qb_P) (J9 : qb_J7) (J40 : qb_J6) (x1 x2 x3 z0 fa fb fc fd fe : Int32) (a1 a2 a3 a4 a5 a6 a7 a8 a9 a10 a11 a12 : List Int32) (a13 : List Int64) (a14 a15 : List Int32) : Bool := qm_addSymbol (fun fa_62 fb_63 fc_64 fd_65 fe_66 am661_69 am662_72 am663_75 am664_78 am665_81 am666_84 am667_87 am668_90 am669_93 am6610_96 am6611_99 am6612_102 am6613_105 am6614_108 am6615_111 => if x3 = 0 then (decide (¬ (2 : Int32) = 0) && (qm_let ((x1 - 2) / 2) (fun x1_114 => J40 x1_114 fa_62 fb_63 fc_64 fd_65 fe_66 am661_69 am662_72 am663_75 am664_78 am665_81 am666_84 am667_87 am668_90 am669_93 am6610_96 am6611_99 am6612_102 am6613_105 am6614_108 am6615_111))) else (decide (¬ (2 : Int32) = 0) && (qm_let ((x1 - 1) / 2) (fun x1_116 => J40 x1_116 fa_62 fb_63 fc_64 fd_65 fe_66 am661_69 am662_72 am663_75 am664_78 am665_81 am666_84 am667_87 am668_90 am669_93 am6610_96 am6611_99 am6612_102 am6613_105 am6614_108 am6615_111)))) fa fb fc fd fe a1 a2 a3 a4 a5 a6 a7 a8 a9 a10 a11 a12 a13 a14 a15 z0
theorem qs_shortenRuns_66 {b_post : qb_P} {post : St2 → Prop} {b_J9 : qb_J7} {J9 : Int32 → Int32 → Int32 → Int32 → Int32 → Int32 → Int32 → (Nat → Int32) → (Nat → Int32) → (Nat → Int32) → (Nat → Int32) → (Nat → Int32) → (Nat → Int32) → (Nat → Int32) → (Nat → Int32) → (Nat → Int32) → (Nat → Int32) → (Nat → Int32) → (Nat → Int32) → (Nat → Int64) → (Nat → Int32) → (Nat → Int32) → Prop} {b_J40 : qb_J6} {J40 : Int32 → Int32 → Int32 → Int32 → Int32 → Int32 → (Nat → Int32) → (Nat → Int32) → (Nat → Int32) → (Nat → Int32) → (Nat → Int32) → (Nat → Int32) → (Nat → Int32) → (Nat → Int32) → (Nat → Int32) → (Nat → Int32) → (Nat → Int32) → (Nat → Int32) → (Nat → Int64) → (Nat → Int32) → (Nat → Int32) → Prop} {x1 x2 x3 z0 fa fb fc fd fe : Int32} {a1 a2 a3 a4 a5 a6 a7 a8 a9 a10 a11 a12 : List Int32} {a13 : List Int64} {a14 a15 : List Int32} (h_post : qp_P b_post post) (h_J9 : qp_J7 b_J9 J9) (h_J40 : qp_J6 b_J40 J40) (h : qm_shortenRuns_66 b_post b_J9 b_J40 x1 x2 x3 z0 fa fb fc fd fe a1 a2 a3 a4 a5 a6 a7 a8 a9 a10 a11 a12 a13 a14 a15 = true) : wX_shortenRuns_66 post J9 J40 x1 x2 x3 z0 fa fb fc fd fe (qm_r a1) (qm_r a2) (qm_r a3) (qm_r a4) (qm_r a5) (qm_r a6) (qm_r a7) (qm_r a8) (qm_r a9) (qm_r a10) (qm_r a11) (qm_r a12) (qm_rL a13) (qm_r a14) (qm_r a15) := by
  unfold wX_shortenRuns_66
  unfold qm_shortenRuns_66 at h
  refine qs_addSymbol (fun fa_62 fb_63 fc_64 fd_65 fe_66 am661_69 am662_72 am663_75 am664_78 am665_81 am666_84 am667_87 am668_90 am669_93 am6610_96 am6611_99 am6612_102 am6613_105 am6614_108 am6615_111 h => ?_) h
  refine qm_iteI h (fun h => ?_) (fun h => ?_)
  · refine qm_andI h (fun h => ?_)
    refine qm_letI h (fun x1_114 h => ?_)
    exact h_J40 _ _ _ _ _ _ _ _ _ _ _ _ _ _ _ _ _ _ _ _ _ h
  · refine qm_andI h (fun h => ?_)
    refine qm_letI h (fun x1_116 h => ?_)
    exact h_J40 _ _ _ _ _ _ _ _ _ _ _ _ _ _ _ _ _ _ _ _ _ h
def qm_shortenRuns_55 (post : qb_P) (J9 : qb_J7) (J40 : qb_J6) (x1 x2 z0 fa fb fc fd fe : Int32) (a1 a2 a3 a4 a5 a6 a7 a8 a9 a10 a11 a12 : List Int32) (a13 : List Int64) (a14 a15 : List Int32) : Bool := if z0 = 0 then (qm_shortenRuns_66 post J9 J40 x1 x2 z0 1 fa fb fc fd fe a1 a2 a3 a4 a5 a6 a7 a8 a9 a10 a11 a12 a13 a14 a15) else (qm_shortenRuns_66 post J9 J40 x1 x2 z0 0 fa fb fc fd fe a1 a2 a3 a4 a5 a6 a7 a8 a9 a10 a11 a12 a13 a14 a15)
theorem qs_shortenRuns_55 {b_post : qb_P} {post : St2 → Prop} {b_J9 : qb_J7} {J9 : Int32 → Int32 → Int32 → Int32 → Int32 → Int32 → Int32 → (Nat → Int32) → (Nat → Int32) → (Nat → Int32) → (Nat → Int32) → (Nat → Int32) → (Nat → Int32) → (Nat → Int32) → (Nat → Int32) → (Nat → Int32) → (Nat → Int32) → (Nat → Int32) → (Nat → Int32) → (Nat → Int64) → (Nat → Int32) → (Nat → Int32) → Prop} {b_J40 : qb_J6} {J40 : Int32 → Int32 → Int32 → Int32 → Int32 → Int32 → (Nat → Int32) → (Nat → Int32) → (Nat → Int32) → (Nat → Int32) → (Nat → Int32) → (Nat → Int32) → (Nat → Int32) → (Nat → Int32) → (Nat → Int32) → (Nat → Int32) → (Nat → Int32) → (Nat → Int32) → (Nat → Int64) → (Nat → Int32) → (Nat → Int32) → Prop} {x1 x2 z0 fa fb fc fd fe : Int32} {a1 a2 a3 a4 a5 a6 a7 a8 a9 a10 a11 a12 : List Int32} {a13 : List Int64} {a14 a15 : List Int32} (h_post : qp_P b_post post) (h_J9 : qp_J7 b_J9 J9) (h_J40 : qp_J6 b_J40 J40) (h : qm_shortenRuns_55 b_post b_J9 b_J40 x1 x2 z0 fa fb fc fd fe a1 a2 a3 a4 a5 a6 a7 a8 a9 a10 a11 a12 a13 a14 a15 = true) : wX_shortenRuns_55 post J9 J40 x1 x2 z0 fa fb fc fd fe (qm_r a1) (qm_r a2) (qm_r a3) (qm_r a4) (qm_r a5) (qm_r a6) (qm_r a7) (qm_r a8) (qm_r a9) (qm_r a10) (qm_r a11) (qm_r a12) (qm_rL a13) (qm_r a14) (qm_r a15) := by
  refine qm_iteI h (fun h => ?_) (fun h => ?_)
  · exact qs_shortenRuns_66 h_post h_J9 h_J40 h
  · exact qs_shortenRuns_66 h_post h_J9 h_J40 h
def qm_shortenRuns_40 (post : qb_P) (J9 : qb_J7) (x2 : Int32) : Nat → Int32 → Int32 → Int32 → Int32 → Int32 → Int32 → List Int32 → List Int32 → List Int32 → List Int32 → List Int32 → List Int32 → List Int32 → List Int32 → List Int32 → List Int32 → List Int32 → List Int32 → List Int64 → List Int32 → List Int32 → Bool
  | 0 => fun _ _ _ _ _ _ _ _ _ _ _ _ _ _ _ _ _ _ _ _ _ => false
  | n + 1 => fun x1 fa fb fc fd fe a1 a2 a3 a4 a5 a6 a7 a8 a9 a10 a11 a12 a13 a14 a15 => if x1 ≤ 0 then (if fa ≤ x2 then (qm_let (x2 + 1) (fun x2_5 => J9 x1 x2_5 fa fb fc fd fe a1 a2 a3 a4 a5 a6 a7 a8 a9 a10 a11 a12 a13 a14 a15)) else (qm_in x2 32 && (qm_addSymbol (fun fa_8 fb_9 fc_10 fd_11 fe_12 am1071_15 am1072_18 am1073_21 am1074_24 am1075_27 am1076_30 am1077_33 am1078_36 am1079_39 am10710_42 am10711_45 am10712_48 am10713_51 am10714_54 am10715_57 => qm_let (x2 + 1) (fun x2_58 => J9 x1 x2_58 fa_8 fb_9 fc_10 fd_11 fe_12 am1071_15 am1072_18 am1073_21 am1074_24 am1075_27 am1076_30 am1077_33 am1078_36 am1079_39 am10710_42 am10711_45 am10712_48 am10713_51 am10714_54 am10715_57)) fa fb fc fd fe a1 a2 a3 a4 a5 a6 a7 a8 a9 a10 a11 a12 a13 a14 a15 ((qm_r a6 x2.toNatClampNeg) + 1)))) else (if (x1 &&& 1) = 0 then (qm_shortenRuns_55 post J9 (qm_shortenRuns_40 post J9 x2 n) x1 x2 0 fa fb fc fd fe a1 a2 a3 a4 a5 a6 a7 a8 a9 a10 a11 a12 a13 a14 a15) else (qm_shortenRuns_55 post J9 (qm_shortenRuns_40 post J9 x2 n) x1 x2 1 fa fb fc fd fe a1 a2 a3 a4 a5 a6 a7 a8 a9 a10 a11 a12 a13 a14 a15))
theorem qs_shortenRuns_40 {b_post : qb_P} {post : St2 → Prop} {b_J9 : qb_J7} {J9 : Int32 → Int32 → Int32 → Int32 → Int32 → Int32 → Int32 → (Nat → Int32) → (Nat → Int32) → (Nat → Int32) → (Nat → Int32) → (Nat → Int32) → (Nat → Int32) → (Nat → Int32) → (Nat → Int32) → (Nat → Int32) → (Nat → Int32) → (Nat → Int32) → (Nat → Int32) → (Nat → Int64) → (Nat → Int32) → (Nat → Int32) → Prop} {x2 : Int32} (h_post : qp_P b_post post) (h_J9 : qp_J7 b_J9 J9) : ∀ (n : Nat) (x1 fa fb fc fd fe : Int32) (a1 a2 a3 a4 a5 a6 a7 a8 a9 a10 a11 a12 : List Int32) (a13 : List Int64) (a14 a15 : List Int32), qm_shortenRuns_40 b_post b_J9 x2 n x1 fa fb fc fd fe a1 a2 a3 a4 a5 a6 a7 a8 a9 a10 a11 a12 a13 a14 a15 = true → wX_shortenRuns_40 post J9 x2 n x1 fa fb fc fd fe (qm_r a1) (qm_r a2) (qm_r a3) (qm_r a4) (qm_r a5) (qm_r a6) (qm_r a7) (qm_r a8) (qm_r a9) (qm_r a10) (qm_r a11) (qm_r a12) (qm_rL a13) (qm_r a14) (qm_r a15) := by
  intro n
  induction n with
  | zero => exact fun _ _ _ _ _ _ _ _ _ _ _ _ _ _ _ _ _ _ _ _ _ h => absurd h Bool.false_ne_true
  | succ n ih =>
    intro x1 fa fb fc fd fe a1 a2 a3 a4 a5 a6 a7 a8 a9 a10 a11 a12 a13 a14 a15 h
    refine qm_iteI h (fun h => ?_) (fun h => ?_)
    · refine qm_iteI h (fun h => ?_) (fun h => ?_)
      · refine qm_letI h (fun x2_5 h => ?_)
        exact h_J9 _ _ _ _ _ _ _ _ _ _ _ _ _ _ _ _ _ _ _ _ _ _ h
      · refine qm_inI h (fun h => ?_)
        refine qs_addSymbol (fun fa_8 fb_9 fc_10 fd_11 fe_12 am1071_15 am1072_18 am1073_21 am1074_24 am1075_27 am1076_30 am1077_33 am1078_36 am1079_39 am10710_42 am10711_45 am10712_48 am10713_51 am10714_54 am10715_57 h => ?_) h
        refine qm_letI h (fun x2_58 h => ?_)
        exact h_J9 _ _ _ _ _ _ _ _ _ _ _ _ _ _ _ _ _ _ _ _ _ _ h
    · refine qm_iteI h (fun h => ?_) (fun h => ?_)
      · exact qs_shortenRuns_55 h_post h_J9 ih h
      · exact qs_shortenRuns_55 h_post h_J9 ih h
def qm_shortenRuns_9 (post : qb_P) : Nat → Int32 → Int32 → Int32 → Int32 → Int32 → Int32 → Int32 → List Int32 → List Int32 → List Int32 → List Int32 → List Int32 → List Int32 → List Int32 → List Int32 → List Int32 → List Int32 → List Int32 → List Int32 → List Int64 → List Int32 → List Int32 → Bool
  | 0 => fun _ _ _ _ _ _ _ _ _ _ _ _ _ _ _ _ _ _ _ _ _ _ => false
  | n + 1 => fun x1 x2 fa fb fc fd fe a1 a2 a3 a4 a5 a6 a7 a8 a9 a10 a11 a12 a13 a14 a15 => if fa < x2 then (post fa fb fc fd fe a1 a2 a3 a4 a5 a6 a7 a8 a9 a10 a11 a12 a13 a14 a15) else (if fa ≤ x2 then (qm_shortenRuns_40 post (qm_shortenRuns_9 post n) x2 40 x1 fa fb fc fd fe a1 a2 a3 a4 a5 a6 a7 a8 a9 a10 a11 a12 a13 a14 a15) else (qm_in x2 32 && (if (qm_r a6 x2.toNatClampNeg) = 0 then (qm_let (x1 + 1) (fun x1_119 => qm_let (x2 + 1) (fun x2_120 => qm_shortenRuns_9 post n x1_119 x2_120 fa fb fc fd fe a1 a2 a3 a4 a5 a6 a7 a8 a9 a10 a11 a12 a13 a14 a15))) else (qm_shortenRuns_40 post (qm_shortenRuns_9 post n) x2 40 x1 fa fb fc fd fe a1 a2 a3 a4 a5 a6 a7 a8 a9 a10 a11 a12 a13 a14 a15))))
theorem qs_shortenRuns_9 {b_post : qb_P} {post : St2 → Prop} (h_post : qp_P b_post post) : ∀ (n : Nat) (x1 x2 fa fb fc fd fe : Int32) (a1 a2 a3 a4 a5 a6 a7 a8 a9 a10 a11 a12 : List Int32) (a13 : List Int64) (a14 a15 : List Int32), qm_shortenRuns_9 b_post n x1 x2 fa fb fc fd fe a1 a2 a3 a4 a5 a6 a7 a8 a9 a10 a11 a12 a13 a14 a15 = true → wX_shortenRuns_9 post n x1 x2 fa fb fc fd fe (qm_r a1) (qm_r a2) (qm_r a3) (qm_r a4) (qm_r a5) (qm_r a6) (qm_r a7) (qm_r a8) (qm_r a9) (qm_r a10) (qm_r a11) (qm_r a12) (qm_rL a13) (qm_r a14) (qm_r a15) := by
  intro n
  induction n with
  | zero => exact fun _ _ _ _ _ _ _ _ _ _ _ _ _ _ _ _ _ _ _ _ _ _ h => absurd h Bool.false_ne_true
  | succ n ih =>
    intro x1 x2 fa fb fc fd fe a1 a2 a3 a4 a5 a6 a7 a8 a9 a10 a11 a12 a13 a14 a15 h
    refine qm_iteI h (fun h => ?_) (fun h => ?_)
    · exact h_post _ _ _ _ _ _ _ _ _ _ _ _ _ _ _ _ _ _ _ _ h
    · refine qm_iteI h (fun h => ?_) (fun h => ?_)
      · refine ⟨40, ?_⟩
        exact qs_shortenRuns_40 h_post ih _ _ _ _ _ _ _ _ _ _ _ _ _ _ _ _ _ _ _ _ _ _ h
      · refine qm_inI h (fun h => ?_)
        refine qm_iteI h (fun h => ?_) (fun h => ?_)
        · refine qm_letI h (fun x1_119 h => ?_)
          refine qm_letI h (fun x2_120 h => ?_)
          exact ih _ _ _ _ _ _ _ _ _ _ _ _ _ _ _ _ _ _ _ _ _ _ h
        · refine ⟨40, ?_⟩
          exact qs_shortenRuns_40 h_post ih _ _ _ _ _ _ _ _ _ _ _ _ _ _ _ _ _ _ _ _ _ _ h
def qm_shortenRuns (post : qb_P) (fa fb fc fd fe : Int32) (a1 a2 a3 a4 a5 a6 a7 a8 a9 a10 a11 a12 : List Int32) (a13 : List Int64) (a14 a15 : List Int32) : Bool := qm_shortenRuns_9 post 40 0 0 fa fb fc 0 fe a1 a2 a3 a4 a5 a6 a7 a8 a9 a10 a11 a12 a13 a14 a15
theorem qs_shortenRuns {b_post : qb_P} {post : St2 → Prop} {fa fb fc fd fe : Int32} {a1 a2 a3 a4 a5 a6 a7 a8 a9 a10 a11 a12 : List Int32} {a13 : List Int64} {a14 a15 : List Int32} (h_post : qp_P b_post post) (h : qm_shortenRuns b_post fa fb fc fd fe a1 a2 a3 a4 a5 a6 a7 a8 a9 a10 a11 a12 a13 a14 a15 = true) : wpX_shortenRuns post (fa, fb, fc, fd, fe, qm_r a1, qm_r a2, qm_r a3, qm_r a4, qm_r a5, qm_r a6, qm_r a7, qm_r a8, qm_r a9, qm_r a10, qm_r a11, qm_r a12, qm_rL a13, qm_r a14, qm_r a15) := by
  refine ⟨40, ?_⟩
  exact qs_shortenRuns_9 h_post _ _ _ _ _ _ _ _ _ _ _ _ _ _ _ _ _ _ _ _ _ _ _ h
end
section
/-! printed by gen.py: the twins of findBits, lightest, numberCodes, writeBits and their rows -/
def qm_lightest_5 (post : qb_I) (x1 fa fb fc fd fe : Int32) (a1 a2 a3 a4 a5 a6 a7 a8 a9 a10 a11 a12 : List Int32) (a13 : List Int64) (a14 a15 : List Int32) : Nat → Int32 → Int32 → Bool
  | 0 => fun _ _ => false
  | n + 1 => fun x2 x3 => if 7 ≤ x3 then (post x2) else (if x3 = x1 then (qm_let (x3 + 1) (fun x3_3 => qm_lightest_5 post x1 fa fb fc fd fe a1 a2 a3 a4 a5 a6 a7 a8 a9 a10 a11 a12 a13 a14 a15 n x2 x3_3)) else (qm_in x3 7 && (if (qm_r a9 x3.toNatClampNeg) = 0 then (qm_let (x3 + 1) (fun x3_13 => qm_lightest_5 post x1 fa fb fc fd fe a1 a2 a3 a4 a5 a6 a7 a8 a9 a10 a11 a12 a13 a14 a15 n x2 x3_13)) else (if x2 < 0 then (qm_let (x3 + 1) (fun x3_7 => qm_lightest_5 post x1 fa fb fc fd fe a1 a2 a3 a4 a5 a6 a7 a8 a9 a10 a11 a12 a13 a14 a15 n x3 x3_7)) else (qm_in x3 7 && (qm_in x2 7 && (if (qm_r a9 x2.toNatClampNeg) ≤ (qm_r a9 x3.toNatClampNeg) then (qm_let (x3 + 1) (fun x3_11 => qm_lightest_5 post x1 fa fb fc fd fe a1 a2 a3 a4 a5 a6 a7 a8 a9 a10 a11 a12 a13 a14 a15 n x2 x3_11)) else (qm_let (x3 + 1) (fun x3_12 => qm_lightest_5 post x1 fa fb fc fd fe a1 a2 a3 a4 a5 a6 a7 a8 a9 a10 a11 a12 a13 a14 a15 n x3 x3_12)))))))))
theorem qs_lightest_5 {b_post : qb_I} {post : Int32 → Prop} {x1 fa fb fc fd fe : Int32} {a1 a2 a3 a4 a5 a6 a7 a8 a9 a10 a11 a12 : List Int32} {a13 : List Int64} {a14 a15 : List Int32} (h_post : qp_I b_post post) : ∀ (n : Nat) (x2 x3 : Int32), qm_lightest_5 b_post x1 fa fb fc fd fe a1 a2 a3 a4 a5 a6 a7 a8 a9 a10 a11 a12 a13 a14 a15 n x2 x3 = true → wX_lightest_5 post x1 fa fb fc fd fe (qm_r a1) (qm_r a2) (qm_r a3) (qm_r a4) (qm_r a5) (qm_r a6) (qm_r a7) (qm_r a8) (qm_r a9) (qm_r a10) (qm_r a11) (qm_r a12) (qm_rL a13) (qm_r a14) (qm_r a15) n x2 x3 := by
  intro n
  induction n with
  | zero => exact fun _ _ h => absurd h Bool.false_ne_true
  | succ n ih =>
    intro x2 x3 h
    refine qm_iteI h (fun h => ?_) (fun h => ?_)
    · exact h_post _ h
    · refine qm_iteI h (fun h => ?_) (fun h => ?_)
      · refine qm_letI h (fun x3_3 h => ?_)
        exact ih _ _ h
      · refine qm_inI h (fun h => ?_)
        refine qm_iteI h (fun h => ?_) (fun h => ?_)
        · refine qm_letI h (fun x3_13 h => ?_)
          exact ih _ _ h
        · refine qm_iteI h (fun h => ?_) (fun h => ?_)
          · refine qm_letI h (fun x3_7 h => ?_)
            exact ih _ _ h
          · refine qm_inI h (fun h => ?_)
            refine qm_inI h (fun h => ?_)
            refine qm_iteI h (fun h => ?_) (fun h => ?_)
            · refine qm_letI h (fun x3_11 h => ?_)
              exact ih _ _ h
            · refine qm_letI h (fun x3_12 h => ?_)
              exact ih _ _ h
def qm_lightest (post : qb_I) (fa fb fc fd fe : Int32) (a1 a2 a3 a4 a5 a6 a7 a8 a9 a10 a11 a12 : List Int32) (a13 : List Int64) (a14 a15 : List Int32) (p0 : Int32) : Bool := qm_lightest_5 post p0 fa fb fc fd fe a1 a2 a3 a4 a5 a6 a7 a8 a9 a10 a11 a12 a13 a14 a15 40 (-3) 0
theorem qs_lightest {b_post : qb_I} {post : Int32 → Prop} {fa fb fc fd fe : Int32} {a1 a2 a3 a4 a5 a6 a7 a8 a9 a10 a11 a12 : List Int32} {a13 : List Int64} {a14 a15 : List Int32} {p0 : Int32} (h_post : qp_I b_post post) (h : qm_lightest b_post fa fb fc fd fe a1 a2 a3 a4 a5 a6 a7 a8 a9 a10 a11 a12 a13 a14 a15 p0 = true) : wpX_lightest post (fa, fb, fc, fd, fe, qm_r a1, qm_r a2, qm_r a3, qm_r a4, qm_r a5, qm_r a6, qm_r a7, qm_r a8, qm_r a9, qm_r a10, qm_r a11, qm_r a12, qm_rL a13, qm_r a14, qm_r a15) p0 := by
  refine ⟨40, ?_⟩
  exact qs_lightest_5 h_post _ _ _ h
def qm_numberCodes_16 (post : qb_P) (J4 : qb_J2) (x2 fa fb fc fd fe : Int32) : Nat → Int32 → Int32 → List Int32 → List Int32 → List Int32 → List Int32 → List Int32 → List Int32 → List Int32 → List Int32 → List Int32 → List Int32 → List Int32 → List Int32 → List Int64 → List Int32 → List Int32 → Bool
  | 0 => fun _ _ _ _ _ _ _ _ _ _ _ _ _ _ _ _ _ => false
  | n + 1 => fun x1 x3 a1 a2 a3 a4 a5 a6 a7 a8 a9 a10 a11 a12 a13 a14 a15 => if 7 ≤ x3 then (qm_let (x2 + 1) (fun x2_4 => J4 x1 x2_4 a1 a2 a3 a4 a5 a6 a7 a8 a9 a10 a11 a12 a13 a14 a15)) else (qm_in x3 7 && (if (qm_r a11 x3.toNatClampNeg) = x2 then (qm_in x3 7 && (qm_set a12 x3.toNatClampNeg x1 (fun a12_8 => qm_let (x1 + 1) (fun x1_9 => qm_let (x3 + 1) (fun x3_10 => qm_numberCodes_16 post J4 x2 fa fb fc fd fe n x1_9 x3_10 a1 a2 a3 a4 a5 a6 a7 a8 a9 a10 a11 a12_8 a13 a14 a15))))) else (qm_let (x3 + 1) (fun x3_11 => qm_numberCodes_16 post J4 x2 fa fb fc fd fe n x1 x3_11 a1 a2 a3 a4 a5 a6 a7 a8 a9 a10 a11 a12 a13 a14 a15))))
theorem qs_numberCodes_16 {b_post : qb_P} {post : St2 → Prop} {b_J4 : qb_J2} {J4 : Int32 → Int32 → (Nat → Int32) → (Nat → Int32) → (Nat → Int32) → (Nat → Int32) → (Nat → Int32) → (Nat → Int32) → (Nat → Int32) → (Nat → Int32) → (Nat → Int32) → (Nat → Int32) → (Nat → Int32) → (Nat → Int32) → (Nat → Int64) → (Nat → Int32) → (Nat → Int32) → Prop} {x2 fa fb fc fd fe : Int32} (h_post : qp_P b_post post) (h_J4 : qp_J2 b_J4 J4) : ∀ (n : Nat) (x1 x3 : Int32) (a1 a2 a3 a4 a5 a6 a7 a8 a9 a10 a11 a12 : List Int32) (a13 : List Int64) (a14 a15 : List Int32), qm_numberCodes_16 b_post b_J4 x2 fa fb fc fd fe n x1 x3 a1 a2 a3 a4 a5 a6 a7 a8 a9 a10 a11 a12 a13 a14 a15 = true → wX_numberCodes_16 post J4 x2 fa fb fc fd fe n x1 x3 (qm_r a1) (qm_r a2) (qm_r a3) (qm_r a4) (qm_r a5) (qm_r a6) (qm_r a7) (qm_r a8) (qm_r a9) (qm_r a10) (qm_r a11) (qm_r a12) (qm_rL a13) (qm_r a14) (qm_r a15) := by
  intro n
  induction n with
  | zero => exact fun _ _ _ _ _ _ _ _ _ _ _ _ _ _ _ _ _ h => absurd h Bool.false_ne_true
  | succ n ih =>
    intro x1 x3 a1 a2 a3 a4 a5 a6 a7 a8 a9 a10 a11 a12 a13 a14 a15 h
    refine qm_iteI h (fun h => ?_) (fun h => ?_)
    · refine qm_letI h (fun x2_4 h => ?_)
      exact h_J4 _ _ _ _ _ _ _ _ _ _ _ _ _ _ _ _ _ h
    · refine qm_inI h (fun h => ?_)
      refine qm_iteI h (fun h => ?_) (fun h => ?_)
      · refine qm_inI h (fun h => ?_)
        refine qm_setI h (fun a12_8 h => ?_)
        refine qm_letI h (fun x1_9 h => ?_)
        refine qm_letI h (fun x3_10 h => ?_)
        exact ih _ _ _ _ _ _ _ _ _ _ _ _ _ _ _ _ _ h
      · refine qm_letI h (fun x3_11 h => ?_)
        exact ih _ _ _ _ _ _ _ _ _ _ _ _ _ _ _ _ _ h
def qm_numberCodes_4 (post : qb_P) (fa fb fc fd fe : Int32) : Nat → Int32 → Int32 → List Int32 → List Int32 → List Int32 → List Int32 → List Int32 → List Int32 → List Int32 → List Int32 → List Int32 → List Int32 → List Int32 → List Int32 → List Int64 → List Int32 → List Int32 → Bool
  | 0 => fun _ _ _ _ _ _ _ _ _ _ _ _ _ _ _ _ _ => false
  | n + 1 => fun x1 x2 a1 a2 a3 a4 a5 a6 a7 a8 a9 a10 a11 a12 a13 a14 a15 => if 8 ≤ x2 then (post fa fb fc fd fe a1 a2 a3 a4 a5 a6 a7 a8 a9 a10 a11 a12 a13 a14 a15) else (qm_let (x1 * 2) (fun x1_2 => qm_numberCodes_16 post (qm_numberCodes_4 post fa fb fc fd fe n) x2 fa fb fc fd fe 40 x1_2 0 a1 a2 a3 a4 a5 a6 a7 a8 a9 a10 a11 a12 a13 a14 a15))
theorem qs_numberCodes_4 {b_post : qb_P} {post : St2 → Prop} {fa fb fc fd fe : Int32} (h_post : qp_P b_post post) : ∀ (n : Nat) (x1 x2 : Int32) (a1 a2 a3 a4 a5 a6 a7 a8 a9 a10 a11 a12 : List Int32) (a13 : List Int64) (a14 a15 : List Int32), qm_numberCodes_4 b_post fa fb fc fd fe n x1 x2 a1 a2 a3 a4 a5 a6 a7 a8 a9 a10 a11 a12 a13 a14 a15 = true → wX_numberCodes_4 post fa fb fc fd fe n x1 x2 (qm_r a1) (qm_r a2) (qm_r a3) (qm_r a4) (qm_r a5) (qm_r a6) (qm_r a7) (qm_r a8) (qm_r a9) (qm_r a10) (qm_r a11) (qm_r a12) (qm_rL a13) (qm_r a14) (qm_r a15) := by
  intro n
  induction n with
  | zero => exact fun _ _ _ _ _ _ _ _ _ _ _ _ _ _ _ _ _ h => absurd h Bool.false_ne_true
  | succ n ih =>
    intro x1 x2 a1 a2 a3 a4 a5 a6 a7 a8 a9 a10 a11 a12 a13 a14 a15 h
    refine qm_iteI h (fun h => ?_) (fun h => ?_)
    · exact h_post _ _ _ _ _ _ _ _ _ _ _ _ _ _ _ _ _ _ _ _ h
    · refine qm_letI h (fun x1_2 h => ?_)
      refine ⟨40, ?_⟩
      exact qs_numberCodes_16 h_post ih _ _ _ _ _ _ _ _ _ _ _ _ _ _ _ _ _ _ h
def qm_numberCodes (post : qb_P) (fa fb fc fd fe : Int32) (a1 a2 a3 a4 a5 a6 a7 a8 a9 a10 a11 a12 : List Int32) (a13 : List Int64) (a14 a15 : List Int32) : Bool := qm_numberCodes_4 post fa fb fc fd fe 40 0 1 a1 a2 a3 a4 a5 a6 a7 a8 a9 a10 a11 a12 a13 a14 a15
theorem qs_numberCodes {b_post : qb_P} {post : St2 → Prop} {fa fb fc fd fe : Int32} {a1 a2 a3 a4 a5 a6 a7 a8 a9 a10 a11 a12 : List Int32} {a13 : List Int64} {a14 a15 : List Int32} (h_post : qp_P b_post post) (h : qm_numberCodes b_post fa fb fc fd fe a1 a2 a3 a4 a5 a6 a7 a8 a9 a10 a11 a12 a13 a14 a15 = true) : wpX_numberCodes post (fa, fb, fc, fd, fe, qm_r a1, qm_r a2, qm_r a3, qm_r a4, qm_r a5, qm_r a6, qm_r a7, qm_r a8, qm_r a9, qm_r a10, qm_r a11, qm_r a12, qm_rL a13, qm_r a14, qm_r a15) := by
  refine ⟨40, ?_⟩
  exact qs_numberCodes_4 h_post _ _ _ _ _ _ _ _ _ _ _ _ _ _ _ _ _ _ h
def qm_findBits_195 (post : qb_P) (fa fb fc fd fe : Int32) (a1 a2 a3 a4 a5 a6 a7 a8 a9 a10 a11 a12 : List Int32) (a13 : List Int64) (a14 a15 : List Int32) : Bool := qm_numberCodes (fun fa_8 fb_9 fc_10 fd_11 fe_12 am1961_15 am1962_18 am1963_21 am1964_24 am1965_27 am1966_30 am1967_33 am1968_36 am1969_39 am19610_42 am19611_45 am19612_48 am19613_51 am19614_54 am19615_57 => post fa_8 fb_9 fc_10 fd_11 fe_12 am1961_15 am1962_18 am1963_21 am1964_24 am1965_27 am1966_30 am1967_33 am1968_36 am1969_39 am19610_42 am19611_45 am19612_48 am19613_51 am19614_54 am19615_57) fa fb fc fd fe a1 a2 a3 a4 a5 a6 a7 a8 a9 a10 a11 a12 a13 a14 a15
theorem qs_findBits_195 {b_post : qb_P} {post : St2 → Prop} {fa fb fc fd fe : Int32} {a1 a2 a3 a4 a5 a6 a7 a8 a9 a10 a11 a12 : List Int32} {a13 : List Int64} {a14 a15 : List Int32} (h_post : qp_P b_post post) (h : qm_findBits_195 b_post fa fb fc fd fe a1 a2 a3 a4 a5 a6 a7 a8 a9 a10 a11 a12 a13 a14 a15 = true) : wX_findBits_195 post fa fb fc fd fe (qm_r a1) (qm_r a2) (qm_r a3) (qm_r a4) (qm_r a5) (qm_r a6) (qm_r a7) (qm_r a8) (qm_r a9) (qm_r a10) (qm_r a11) (qm_r a12) (qm_rL a13) (qm_r a14) (qm_r a15) := by
  unfold wX_findBits_195
  unfold qm_findBits_195 at h
  refine qs_numberCodes (fun fa_8 fb_9 fc_10 fd_11 fe_12 am1961_15 am1962_18 am1963_21 am1964_24 am1965_27 am1966_30 am1967_33 am1968_36 am1969_39 am19610_42 am19611_45 am19612_48 am19613_51 am19614_54 am19615_57 h => ?_) h
  exact h_post _ _ _ _ _ _ _ _ _ _ _ _ _ _ _ _ _ _ _ _ h
def qm_findBits_143 (post : qb_P) (J96 : qb_J2) (x2 fa fb fc fd fe : Int32) : Nat → Int32 → List Int32 → List Int32 → List Int32 → List Int32 → List Int32 → List Int32 → List Int32 → List Int32 → List Int32 → List Int32 → List Int32 → List Int32 → List Int64 → List Int32 → List Int32 → Bool
  | 0 => fun _ _ _ _ _ _ _ _ _ _ _ _ _ _ _ _ => false
  | n + 1 => fun x3 a1 a2 a3 a4 a5 a6 a7 a8 a9 a10 a11 a12 a13 a14 a15 => if 7 ≤ x3 then (qm_lightest (fun r_70 => qm_lightest (fun r_71 => J96 r_70 r_71 a1 a2 a3 a4 a5 a6 a7 a8 a9 a10 a11 a12 a13 a14 a15) fa fb fc fd fe a1 a2 a3 a4 a5 a6 a7 a8 a9 a10 a11 a12 a13 a14 a15 r_70) fa fb fc fd fe a1 a2 a3 a4 a5 a6 a7 a8 a9 a10 a11 a12 a13 a14 a15 (-3)) else (qm_in x2 7 && (if (((qm_r a10 x2.toNatClampNeg) >>> (x3 &&& 31)) &&& 1) = 0 then (qm_let (x3 + 1) (fun x3_74 => qm_findBits_143 post J96 x2 fa fb fc fd fe n x3_74 a1 a2 a3 a4 a5 a6 a7 a8 a9 a10 a11 a12 a13 a14 a15)) else (qm_in x3 7 && (qm_in x3 7 && (qm_set a11 x3.toNatClampNeg (((qm_r a11 x3.toNatClampNeg) + 1).toInt8.toInt32) (fun a11_77 => qm_let (x3 + 1) (fun x3_78 => qm_findBits_143 post J96 x2 fa fb fc fd fe n x3_78 a1 a2 a3 a4 a5 a6 a7 a8 a9 a10 a11_77 a12 a13 a14 a15)))))))
theorem qs_findBits_143 {b_post : qb_P} {post : St2 → Prop} {b_J96 : qb_J2} {J96 : Int32 → Int32 → (Nat → Int32) → (Nat → Int32) → (Nat → Int32) → (Nat → Int32) → (Nat → Int32) → (Nat → Int32) → (Nat → Int32) → (Nat → Int32) → (Nat → Int32) → (Nat → Int32) → (Nat → Int32) → (Nat → Int32) → (Nat → Int64) → (Nat → Int32) → (Nat → Int32) → Prop} {x2 fa fb fc fd fe : Int32} (h_post : qp_P b_post post) (h_J96 : qp_J2 b_J96 J96) : ∀ (n : Nat) (x3 : Int32) (a1 a2 a3 a4 a5 a6 a7 a8 a9 a10 a11 a12 : List Int32) (a13 : List Int64) (a14 a15 : List Int32), qm_findBits_143 b_post b_J96 x2 fa fb fc fd fe n x3 a1 a2 a3 a4 a5 a6 a7 a8 a9 a10 a11 a12 a13 a14 a15 = true → wX_findBits_143 post J96 x2 fa fb fc fd fe n x3 (qm_r a1) (qm_r a2) (qm_r a3) (qm_r a4) (qm_r a5) (qm_r a6) (qm_r a7) (qm_r a8) (qm_r a9) (qm_r a10) (qm_r a11) (qm_r a12) (qm_rL a13) (qm_r a14) (qm_r a15) := by
  intro n
  induction n with
  | zero => exact fun _ _ _ _ _ _ _ _ _ _ _ _ _ _ _ _ h => absurd h Bool.false_ne_true
  | succ n ih =>
    intro x3 a1 a2 a3 a4 a5 a6 a7 a8 a9 a10 a11 a12 a13 a14 a15 h
    refine qm_iteI h (fun h => ?_) (fun h => ?_)
    · refine qs_lightest (fun r_70 h => ?_) h
      refine qs_lightest (fun r_71 h => ?_) h
      exact h_J96 _ _ _ _ _ _ _ _ _ _ _ _ _ _ _ _ _ h
    · refine qm_inI h (fun h => ?_)
      refine qm_iteI h (fun h => ?_) (fun h => ?_)
      · refine qm_letI h (fun x3_74 h => ?_)
        exact ih _ _ _ _ _ _ _ _ _ _ _ _ _ _ _ _ h
      · refine qm_inI h (fun h => ?_)
        refine qm_inI h (fun h => ?_)
        refine qm_setI h (fun a11_77 h => ?_)
        refine qm_letI h (fun x3_78 h => ?_)
        exact ih _ _ _ _ _ _ _ _ _ _ _ _ _ _ _ _ h
def qm_findBits_96 (post : qb_P) (fa fb fc fd fe : Int32) : Nat → Int32 → Int32 → List Int32 → List Int32 → List Int32 → List Int32 → List Int32 → List Int32 → List Int32 → List Int32 → List Int32 → List Int32 → List Int32 → List Int32 → List Int64 → List Int32 → List Int32 → Bool
  | 0 => fun _ _ _ _ _ _ _ _ _ _ _ _ _ _ _ _ _ => false
  | n + 1 => fun x1 x2 a1 a2 a3 a4 a5 a6 a7 a8 a9 a10 a11 a12 a13 a14 a15 => if x1 < 0 then (qm_findBits_195 post fa fb fc fd fe a1 a2 a3 a4 a5 a6 a7 a8 a9 a10 a11 a12 a13 a14 a15) else (if x2 < 0 then (qm_findBits_195 post fa fb fc fd fe a1 a2 a3 a4 a5 a6 a7 a8 a9 a10 a11 a12 a13 a14 a15) else (qm_in x2 7 && (qm_in x1 7 && (qm_in x2 7 && (qm_set a10 x2.toNatClampNeg ((qm_r a10 x2.toNatClampNeg) ||| (qm_r a10 x1.toNatClampNeg)) (fun a10_62 => qm_in x2 7 && (qm_in x1 7 && (qm_in x2 7 && (qm_set a9 x2.toNatClampNeg ((qm_r a9 x2.toNatClampNeg) + (qm_r a9 x1.toNatClampNeg)) (fun a9_66 => qm_in x1 7 && (qm_set a9_66 x1.toNatClampNeg 0 (fun a9_68 => qm_findBits_143 post (qm_findBits_96 post fa fb fc fd fe n) x2 fa fb fc fd fe 40 0 a1 a2 a3 a4 a5 a6 a7 a8 a9_68 a10_62 a11 a12 a13 a14 a15))))))))))))
theorem qs_findBits_96 {b_post : qb_P} {post : St2 → Prop} {fa fb fc fd fe : Int32} (h_post : qp_P b_post post) : ∀ (n : Nat) (x1 x2 : Int32) (a1 a2 a3 a4 a5 a6 a7 a8 a9 a10 a11 a12 : List Int32) (a13 : List Int64) (a14 a15 : List Int32), qm_findBits_96 b_post fa fb fc fd fe n x1 x2 a1 a2 a3 a4 a5 a6 a7 a8 a9 a10 a11 a12 a13 a14 a15 = true → wX_findBits_96 post fa fb fc fd fe n x1 x2 (qm_r a1) (qm_r a2) (qm_r a3) (qm_r a4) (qm_r a5) (qm_r a6) (qm_r a7) (qm_r a8) (qm_r a9) (qm_r a10) (qm_r a11) (qm_r a12) (qm_rL a13) (qm_r a14) (qm_r a15) := by
  intro n
  induction n with
  | zero => exact fun _ _ _ _ _ _ _ _ _ _ _ _ _ _ _ _ _ h => absurd h Bool.false_ne_true
  | succ n ih =>
    intro x1 x2 a1 a2 a3 a4 a5 a6 a7 a8 a9 a10 a11 a12 a13 a14 a15 h
    refine qm_iteI h (fun h => ?_) (fun h => ?_)
    · exact qs_findBits_195 h_post h
    · refine qm_iteI h (fun h => ?_) (fun h => ?_)
      · exact qs_findBits_195 h_post h
      · refine qm_inI h (fun h => ?_)
        refine qm_inI h (fun h => ?_)
        refine qm_inI h (fun h => ?_)
        refine qm_setI h (fun a10_62 h => ?_)
        refine qm_inI h (fun h => ?_)
        refine qm_inI h (fun h => ?_)
        refine qm_inI h (fun h => ?_)
        refine qm_setI h (fun a9_66 h => ?_)
        refine qm_inI h (fun h => ?_)
        refine qm_setI h (fun a9_68 h => ?_)
        refine ⟨40, ?_⟩
        exact qs_findBits_143 h_post ih _ _ _ _ _ _ _ _ _ _ _ _ _ _ _ _ _ h
def qm_findBits_39 (post : qb_P) (fa fb fc fd fe : Int32) : Nat → Int32 → List Int32 → List Int32 → List Int32 → List Int32 → List Int32 → List Int32 → List Int32 → List Int32 → List Int32 → List Int32 → List Int32 → List Int32 → List Int64 → List Int32 → List Int32 → Bool
  | 0 => fun _ _ _ _ _ _ _ _ _ _ _ _ _ _ _ _ => false
  | n + 1 => fun x1 a1 a2 a3 a4 a5 a6 a7 a8 a9 a10 a11 a12 a13 a14 a15 => if fd ≤ x1 then (qm_lightest (fun r_3 => qm_lightest (fun r_4 => if r_3 < 0 then (qm_findBits_96 post fa fb fc fd fe 40 r_3 r_4 a1 a2 a3 a4 a5 a6 a7 a8 a9 a10 a11 a12 a13 a14 a15) else (if 0 ≤ r_4 then (qm_findBits_96 post fa fb fc fd fe 40 r_3 r_4 a1 a2 a3 a4 a5 a6 a7 a8 a9 a10 a11 a12 a13 a14 a15) else (qm_in r_3 7 && (qm_set a11 r_3.toNatClampNeg 1 (fun a11_81 => qm_findBits_96 post fa fb fc fd fe 40 r_3 r_4 a1 a2 a3 a4 a5 a6 a7 a8 a9 a10 a11_81 a12 a13 a14 a15))))) fa fb fc fd fe a1 a2 a3 a4 a5 a6 a7 a8 a9 a10 a11 a12 a13 a14 a15 r_3) fa fb fc fd fe a1 a2 a3 a4 a5 a6 a7 a8 a9 a10 a11 a12 a13 a14 a15 (-3)) else (qm_in x1 32 && (qm_in (qm_r a7 x1.toNatClampNeg) 7 && (qm_in (qm_r a7 x1.toNatClampNeg) 7 && (qm_set a9 (qm_r a7 x1.toNatClampNeg).toNatClampNeg ((qm_r a9 (qm_r a7 x1.toNatClampNeg).toNatClampNeg) + 1) (fun a9_85 => qm_let (x1 + 1) (fun x1_86 => qm_findBits_39 post fa fb fc fd fe n x1_86 a1 a2 a3 a4 a5 a6 a7 a8 a9_85 a10 a11 a12 a13 a14 a15))))))
theorem qs_findBits_39 {b_post : qb_P} {post : St2 → Prop} {fa fb fc fd fe : Int32} (h_post : qp_P b_post post) : ∀ (n : Nat) (x1 : Int32) (a1 a2 a3 a4 a5 a6 a7 a8 a9 a10 a11 a12 : List Int32) (a13 : List Int64) (a14 a15 : List Int32), qm_findBits_39 b_post fa fb fc fd fe n x1 a1 a2 a3 a4 a5 a6 a7 a8 a9 a10 a11 a12 a13 a14 a15 = true → wX_findBits_39 post fa fb fc fd fe n x1 (qm_r a1) (qm_r a2) (qm_r a3) (qm_r a4) (qm_r a5) (qm_r a6) (qm_r a7) (qm_r a8) (qm_r a9) (qm_r a10) (qm_r a11) (qm_r a12) (qm_rL a13) (qm_r a14) (qm_r a15) := by
  intro n
  induction n with
  | zero => exact fun _ _ _ _ _ _ _ _ _ _ _ _ _ _ _ _ h => absurd h Bool.false_ne_true
  | succ n ih =>
    intro x1 a1 a2 a3 a4 a5 a6 a7 a8 a9 a10 a11 a12 a13 a14 a15 h
    refine qm_iteI h (fun h => ?_) (fun h => ?_)
    · refine qs_lightest (fun r_3 h => ?_) h
      refine qs_lightest (fun r_4 h => ?_) h
      refine qm_iteI h (fun h => ?_) (fun h => ?_)
      · refine ⟨40, ?_⟩
        exact qs_findBits_96 h_post _ _ _ _ _ _ _ _ _ _ _ _ _ _ _ _ _ _ h
      · refine qm_iteI h (fun h => ?_) (fun h => ?_)
        · refine ⟨40, ?_⟩
          exact qs_findBits_96 h_post _ _ _ _ _ _ _ _ _ _ _ _ _ _ _ _ _ _ h
        · refine qm_inI h (fun h => ?_)
          refine qm_setI h (fun a11_81 h => ?_)
          refine ⟨40, ?_⟩
          exact qs_findBits_96 h_post _ _ _ _ _ _ _ _ _ _ _ _ _ _ _ _ _ _ h
    · refine qm_inI h (fun h => ?_)
      refine qm_inI h (fun h => ?_)
      refine qm_inI h (fun h => ?_)
      refine qm_setI h (fun a9_85 h => ?_)
      refine qm_letI h (fun x1_86 h => ?_)
      exact ih _ _ _ _ _ _ _ _ _ _ _ _ _ _ _ _ h
def qm_findBits_2 (post : qb_P) (fa fb fc fd fe : Int32) : Nat → Int32 → List Int32 → List Int32 → List Int32 → List Int32 → List Int32 → List Int32 → List Int32 → List Int32 → List Int32 → List Int32 → List Int32 → List Int32 → List Int64 → List Int32 → List Int32 → Bool
  | 0 => fun _ _ _ _ _ _ _ _ _ _ _ _ _ _ _ _ => false
  | n + 1 => fun x1 a1 a2 a3 a4 a5 a6 a7 a8 a9 a10 a11 a12 a13 a14 a15 => if 7 ≤ x1 then (qm_findBits_39 post fa fb fc fd fe 40 0 a1 a2 a3 a4 a5 a6 a7 a8 a9 a10 a11 a12 a13 a14 a15) else (qm_in x1 7 && (qm_set a9 x1.toNatClampNeg 0 (fun a9_88 => qm_in x1 7 && (qm_set a10 x1.toNatClampNeg ((1 : Int32) <<< (x1 &&& 31)) (fun a10_90 => qm_in x1 7 && (qm_set a11 x1.toNatClampNeg 0 (fun a11_92 => qm_let (x1 + 1) (fun x1_93 => qm_findBits_2 post fa fb fc fd fe n x1_93 a1 a2 a3 a4 a5 a6 a7 a8 a9_88 a10_90 a11_92 a12 a13 a14 a15))))))))
theorem qs_findBits_2 {b_post : qb_P} {post : St2 → Prop} {fa fb fc fd fe : Int32} (h_post : qp_P b_post post) : ∀ (n : Nat) (x1 : Int32) (a1 a2 a3 a4 a5 a6 a7 a8 a9 a10 a11 a12 : List Int32) (a13 : List Int64) (a14 a15 : List Int32), qm_findBits_2 b_post fa fb fc fd fe n x1 a1 a2 a3 a4 a5 a6 a7 a8 a9 a10 a11 a12 a13 a14 a15 = true → wX_findBits_2 post fa fb fc fd fe n x1 (qm_r a1) (qm_r a2) (qm_r a3) (qm_r a4) (qm_r a5) (qm_r a6) (qm_r a7) (qm_r a8) (qm_r a9) (qm_r a10) (qm_r a11) (qm_r a12) (qm_rL a13) (qm_r a14) (qm_r a15) := by
  intro n
  induction n with
  | zero => exact fun _ _ _ _ _ _ _ _ _ _ _ _ _ _ _ _ h => absurd h Bool.false_ne_true
  | succ n ih =>
    intro x1 a1 a2 a3 a4 a5 a6 a7 a8 a9 a10 a11 a12 a13 a14 a15 h
    refine qm_iteI h (fun h => ?_) (fun h => ?_)
    · refine ⟨40, ?_⟩
      exact qs_findBits_39 h_post _ _ _ _ _ _ _ _ _ _ _ _ _ _ _ _ _ h
    · refine qm_inI h (fun h => ?_)
      refine qm_setI h (fun a9_88 h => ?_)
      refine qm_inI h (fun h => ?_)
      refine qm_setI h (fun a10_90 h => ?_)
      refine qm_inI h (fun h => ?_)
      refine qm_setI h (fun a11_92 h => ?_)
      refine qm_letI h (fun x1_93 h => ?_)
      exact ih _ _ _ _ _ _ _ _ _ _ _ _ _ _ _ _ h
def qm_findBits (post : qb_P) (fa fb fc fd fe : Int32) (a1 a2 a3 a4 a5 a6 a7 a8 a9 a10 a11 a12 : List Int32) (a13 : List Int64) (a14 a15 : List Int32) : Bool := qm_findBits_2 post fa fb fc fd fe 40 0 a1 a2 a3 a4 a5 a6 a7 a8 a9 a10 a11 a12 a13 a14 a15
theorem qs_findBits {b_post : qb_P} {post : St2 → Prop} {fa fb fc fd fe : Int32} {a1 a2 a3 a4 a5 a6 a7 a8 a9 a10 a11 a12 : List Int32} {a13 : List Int64} {a14 a15 : List Int32} (h_post : qp_P b_post post) (h : qm_findBits b_post fa fb fc fd fe a1 a2 a3 a4 a5 a6 a7 a8 a9 a10 a11 a12 a13 a14 a15 = true) : wpX_findBits post (fa, fb, fc, fd, fe, qm_r a1, qm_r a2, qm_r a3, qm_r a4, qm_r a5, qm_r a6, qm_r a7, qm_r a8, qm_r a9, qm_r a10, qm_r a11, qm_r a12, qm_rL a13, qm_r a14, qm_r a15) := by
  refine ⟨40, ?_⟩
  exact qs_findBits_2 h_post _ _ _ _ _ _ _ _ _ _ _ _ _ _ _ _ _ h
def qm_writeBits_92 (post : qb_P) (J27 J51 : qb_J2) (x1 x2 x3 fa fb fc fd fe : Int32) (a1 a2 a3 a4 a5 a6 a7 a8 a9 a10 a11 a12 : List Int32) (a13 : List Int64) (a14 a15 : List Int32) : Bool := qm_let (fe + 1) (fun f_11 => qm_let (x3 + (-1)) (fun x3_12 => J51 x3_12 f_11 a1 a2 a3 a4 a5 a6 a7 a8 a9 a10 a11 a12 a13 a14 a15))
theorem qs_writeBits_92 {b_post : qb_P} {post : St2 → Prop} {b_J27 : qb_J2} {J27 : Int32 → Int32 → (Nat → Int32) → (Nat → Int32) → (Nat → Int32) → (Nat → Int32) → (Nat → Int32) → (Nat → Int32) → (Nat → Int32) → (Nat → Int32) → (Nat → Int32) → (Nat → Int32) → (Nat → Int32) → (Nat → Int32) → (Nat → Int64) → (Nat → Int32) → (Nat → Int32) → Prop} {b_J51 : qb_J2} {J51 : Int32 → Int32 → (Nat → Int32) → (Nat → Int32) → (Nat → Int32) → (Nat → Int32) → (Nat → Int32) → (Nat → Int32) → (Nat → Int32) → (Nat → Int32) → (Nat → Int32) → (Nat → Int32) → (Nat → Int32) → (Nat → Int32) → (Nat → Int64) → (Nat → Int32) → (Nat → Int32) → Prop} {x1 x2 x3 fa fb fc fd fe : Int32} {a1 a2 a3 a4 a5 a6 a7 a8 a9 a10 a11 a12 : List Int32} {a13 : List Int64} {a14 a15 : List Int32} (h_post : qp_P b_post post) (h_J27 : qp_J2 b_J27 J27) (h_J51 : qp_J2 b_J51 J51) (h : qm_writeBits_92 b_post b_J27 b_J51 x1 x2 x3 fa fb fc fd fe a1 a2 a3 a4 a5 a6 a7 a8 a9 a10 a11 a12 a13 a14 a15 = true) : wX_writeBits_92 post J27 J51 x1 x2 x3 fa fb fc fd fe (qm_r a1) (qm_r a2) (qm_r a3) (qm_r a4) (qm_r a5) (qm_r a6) (qm_r a7) (qm_r a8) (qm_r a9) (qm_r a10) (qm_r a11) (qm_r a12) (qm_rL a13) (qm_r a14) (qm_r a15) := by
  refine qm_letI h (fun f_11 h => ?_)
  refine qm_letI h (fun x3_12 h => ?_)
  exact h_J51 _ _ _ _ _ _ _ _ _ _ _ _ _ _ _ _ _ h
def qm_writeBits_51 (post : qb_P) (J27 : qb_J2) (x1 x2 fa fb fc fd : Int32) : Nat → Int32 → Int32 → List Int32 → List Int32 → List Int32 → List Int32 → List Int32 → List Int32 → List Int32 → List Int32 → List Int32 → List Int32 → List Int32 → List Int32 → List Int64 → List Int32 → List Int32 → Bool
  | 0 => fun _ _ _ _ _ _ _ _ _ _ _ _ _ _ _ _ _ => false
  | n + 1 => fun x3 fe a1 a2 a3 a4 a5 a6 a7 a8 a9 a10 a11 a12 a13 a14 a15 => if x3 < 0 then (qm_let (x1 + 1) (fun x1_8 => J27 x1_8 fe a1 a2 a3 a4 a5 a6 a7 a8 a9 a10 a11 a12 a13 a14 a15)) else (qm_in x2 7 && (if (((qm_r a12 x2.toNatClampNeg) >>> (x3 &&& 31)) &&& 1) = 0 then (qm_writeBits_92 post J27 (qm_writeBits_51 post J27 x1 x2 fa fb fc fd n) x1 x2 x3 fa fb fc fd fe a1 a2 a3 a4 a5 a6 a7 a8 a9 a10 a11 a12 a13 a14 a15) else (qm_in (fe >>> ((6 : Int32) &&& 31)) 4 && (qm_in (fe >>> ((6 : Int32) &&& 31)) 4 && (qm_setL a13 (fe >>> ((6 : Int32) &&& 31)).toNatClampNeg ((qm_rL a13 (fe >>> ((6 : Int32) &&& 31)).toNatClampNeg) ||| ((1 : Int64) <<< ((fe &&& 63).toInt64 &&& 63))) (fun a13_15 => qm_writeBits_92 post J27 (qm_writeBits_51 post J27 x1 x2 fa fb fc fd n) x1 x2 x3 fa fb fc fd fe a1 a2 a3 a4 a5 a6 a7 a8 a9 a10 a11 a12 a13_15 a14 a15))))))
theorem qs_writeBits_51 {b_post : qb_P} {post : St2 → Prop} {b_J27 : qb_J2} {J27 : Int32 → Int32 → (Nat → Int32) → (Nat → Int32) → (Nat → Int32) → (Nat → Int32) → (Nat → Int32) → (Nat → Int32) → (Nat → Int32) → (Nat → Int32) → (Nat → Int32) → (Nat → Int32) → (Nat → Int32) → (Nat → Int32) → (Nat → Int64) → (Nat → Int32) → (Nat → Int32) → Prop} {x1 x2 fa fb fc fd : Int32} (h_post : qp_P b_post post) (h_J27 : qp_J2 b_J27 J27) : ∀ (n : Nat) (x3 fe : Int32) (a1 a2 a3 a4 a5 a6 a7 a8 a9 a10 a11 a12 : List Int32) (a13 : List Int64) (a14 a15 : List Int32), qm_writeBits_51 b_post b_J27 x1 x2 fa fb fc fd n x3 fe a1 a2 a3 a4 a5 a6 a7 a8 a9 a10 a11 a12 a13 a14 a15 = true → wX_writeBits_51 post J27 x1 x2 fa fb fc fd n x3 fe (qm_r a1) (qm_r a2) (qm_r a3) (qm_r a4) (qm_r a5) (qm_r a6) (qm_r a7) (qm_r a8) (qm_r a9) (qm_r a10) (qm_r a11) (qm_r a12) (qm_rL a13) (qm_r a14) (qm_r a15) := by
  intro n
  induction n with
  | zero => exact fun _ _ _ _ _ _ _ _ _ _ _ _ _ _ _ _ _ h => absurd h Bool.false_ne_true
  | succ n ih =>
    intro x3 fe a1 a2 a3 a4 a5 a6 a7 a8 a9 a10 a11 a12 a13 a14 a15 h
    refine qm_iteI h (fun h => ?_) (fun h => ?_)
    · refine qm_letI h (fun x1_8 h => ?_)
      exact h_J27 _ _ _ _ _ _ _ _ _ _ _ _ _ _ _ _ _ h
    · refine qm_inI h (fun h => ?_)
      refine qm_iteI h (fun h => ?_) (fun h => ?_)
      · exact qs_writeBits_92 h_post h_J27 ih h
      · refine qm_inI h (fun h => ?_)
        refine qm_inI h (fun h => ?_)
        refine qm_setLI h (fun a13_15 h => ?_)
        exact qs_writeBits_92 h_post h_J27 ih h
def qm_writeBits_27 (post : qb_P) (fa fb fc fd : Int32) : Nat → Int32 → Int32 → List Int32 → List Int32 → List Int32 → List Int32 → List Int32 → List Int32 → List Int32 → List Int32 → List Int32 → List Int32 → List Int32 → List Int32 → List Int64 → List Int32 → List Int32 → Bool
  | 0 => fun _ _ _ _ _ _ _ _ _ _ _ _ _ _ _ _ _ => false
  | n + 1 => fun x1 fe a1 a2 a3 a4 a5 a6 a7 a8 a9 a10 a11 a12 a13 a14 a15 => if fd ≤ x1 then (post fa fb fc fd fe a1 a2 a3 a4 a5 a6 a7 a8 a9 a10 a11 a12 a13 a14 a15) else (qm_in x1 32 && (qm_let (qm_r a7 x1.toNatClampNeg) (fun x2_4 => qm_in x2_4 7 && (qm_let ((qm_r a11 x2_4.toNatClampNeg) - 1) (fun x3_6 => qm_writeBits_51 post (qm_writeBits_27 post fa fb fc fd n) x1 x2_4 fa fb fc fd 40 x3_6 fe a1 a2 a3 a4 a5 a6 a7 a8 a9 a10 a11 a12 a13 a14 a15)))))
theorem qs_writeBits_27 {b_post : qb_P} {post : St2 → Prop} {fa fb fc fd : Int32} (h_post : qp_P b_post post) : ∀ (n : Nat) (x1 fe : Int32) (a1 a2 a3 a4 a5 a6 a7 a8 a9 a10 a11 a12 : List Int32) (a13 : List Int64) (a14 a15 : List Int32), qm_writeBits_27 b_post fa fb fc fd n x1 fe a1 a2 a3 a4 a5 a6 a7 a8 a9 a10 a11 a12 a13 a14 a15 = true → wX_writeBits_27 post fa fb fc fd n x1 fe (qm_r a1) (qm_r a2) (qm_r a3) (qm_r a4) (qm_r a5) (qm_r a6) (qm_r a7) (qm_r a8) (qm_r a9) (qm_r a10) (qm_r a11) (qm_r a12) (qm_rL a13) (qm_r a14) (qm_r a15) := by
  intro n
  induction n with
  | zero => exact fun _ _ _ _ _ _ _ _ _ _ _ _ _ _ _ _ _ h => absurd h Bool.false_ne_true
  | succ n ih =>
    intro x1 fe a1 a2 a3 a4 a5 a6 a7 a8 a9 a10 a11 a12 a13 a14 a15 h
    refine qm_iteI h (fun h => ?_) (fun h => ?_)
    · exact h_post _ _ _ _ _ _ _ _ _ _ _ _ _ _ _ _ _ _ _ _ h
    · refine qm_inI h (fun h => ?_)
      refine qm_letI h (fun x2_4 h => ?_)
      refine qm_inI h (fun h => ?_)
      refine qm_letI h (fun x3_6 h => ?_)
      refine ⟨40, ?_⟩
      exact qs_writeBits_51 h_post ih _ _ _ _ _ _ _ _ _ _ _ _ _ _ _ _ _ _ h
def qm_writeBits_7 (post : qb_P) (fa fb fc fd fe : Int32) : Nat → Int32 → List Int32 → List Int32 → List Int32 → List Int32 → List Int32 → List Int32 → List Int32 → List Int32 → List Int32 → List Int32 → List Int32 → List Int32 → List Int64 → List Int32 → List Int32 → Bool
  | 0 => fun _ _ _ _ _ _ _ _ _ _ _ _ _ _ _ _ => false
  | n + 1 => fun x1 a1 a2 a3 a4 a5 a6 a7 a8 a9 a10 a11 a12 a13 a14 a15 => if 4 ≤ x1 then (qm_writeBits_27 post fa fb fc fd 40 0 fe a1 a2 a3 a4 a5 a6 a7 a8 a9 a10 a11 a12 a13 a14 a15) else (qm_in x1 4 && (qm_setL a13 x1.toNatClampNeg 0 (fun a13_17 => qm_let (x1 + 1) (fun x1_18 => qm_writeBits_7 post fa fb fc fd fe n x1_18 a1 a2 a3 a4 a5 a6 a7 a8 a9 a10 a11 a12 a13_17 a14 a15))))
theorem qs_writeBits_7 {b_post : qb_P} {post : St2 → Prop} {fa fb fc fd fe : Int32} (h_post : qp_P b_post post) : ∀ (n : Nat) (x1 : Int32) (a1 a2 a3 a4 a5 a6 a7 a8 a9 a10 a11 a12 : List Int32) (a13 : List Int64) (a14 a15 : List Int32), qm_writeBits_7 b_post fa fb fc fd fe n x1 a1 a2 a3 a4 a5 a6 a7 a8 a9 a10 a11 a12 a13 a14 a15 = true → wX_writeBits_7 post fa fb fc fd fe n x1 (qm_r a1) (qm_r a2) (qm_r a3) (qm_r a4) (qm_r a5) (qm_r a6) (qm_r a7) (qm_r a8) (qm_r a9) (qm_r a10) (qm_r a11) (qm_r a12) (qm_rL a13) (qm_r a14) (qm_r a15) := by
  intro n
  induction n with
  | zero => exact fun _ _ _ _ _ _ _ _ _ _ _ _ _ _ _ _ h => absurd h Bool.false_ne_true
  | succ n ih =>
    intro x1 a1 a2 a3 a4 a5 a6 a7 a8 a9 a10 a11 a12 a13 a14 a15 h
    refine qm_iteI h (fun h => ?_) (fun h => ?_)
    · refine ⟨40, ?_⟩
      exact qs_writeBits_27 h_post _ _ _ _ _ _ _ _ _ _ _ _ _ _ _ _ _ _ h
    · refine qm_inI h (fun h => ?_)
      refine qm_setLI h (fun a13_17 h => ?_)
      refine qm_letI h (fun x1_18 h => ?_)
      exact ih _ _ _ _ _ _ _ _ _ _ _ _ _ _ _ _ h
def qm_writeBits (post : qb_P) (fa fb fc fd fe : Int32) (a1 a2 a3 a4 a5 a6 a7 a8 a9 a10 a11 a12 : List Int32) (a13 : List Int64) (a14 a15 : List Int32) : Bool := qm_writeBits_7 post fa fb fc fd 0 40 0 a1 a2 a3 a4 a5 a6 a7 a8 a9 a10 a11 a12 a13 a14 a15
theorem qs_writeBits {b_post : qb_P} {post : St2 → Prop} {fa fb fc fd fe : Int32} {a1 a2 a3 a4 a5 a6 a7 a8 a9 a10 a11 a12 : List Int32} {a13 : List Int64} {a14 a15 : List Int32} (h_post : qp_P b_post post) (h : qm_writeBits b_post fa fb fc fd fe a1 a2 a3 a4 a5 a6 a7 a8 a9 a10 a11 a12 a13 a14 a15 = true) : wpX_writeBits post (fa, fb, fc, fd, fe, qm_r a1, qm_r a2, qm_r a3, qm_r a4, qm_r a5, qm_r a6, qm_r a7, qm_r a8, qm_r a9, qm_r a10, qm_r a11, qm_r a12, qm_rL a13, qm_r a14, qm_r a15) := by
  refine ⟨40, ?_⟩
  exact qs_writeBits_7 h_post _ _ _ _ _ _ _ _ _ _ _ _ _ _ _ _ _ h
end
section
/-! printed by gen.py: the twins of code and their rows -/
def qm_code_48 (post : qb_P) (J24 : qb_J2) (x1 x2 fa fb fc fd fe : Int32) (am141 am142 am143 am144 am145 am146 am147 am148 am149 am1410 am1411 am1412 : List Int32) (am1413 : List Int64) (am1414 am1415 : List Int32) : Bool := if x2 = 0 then (qm_in (fa - 1) 32 && (qm_in x1 32 && (qm_set am145 x1.toNatClampNeg (vp_nar .byte (qm_r am141 (fa - 1).toNatClampNeg)) (fun am145_268 => qm_let (x1 + 1) (fun x1_269 => J24 x1_269 fc am141 am142 am143 am144 am145_268 am146 am147 am148 am149 am1410 am1411 am1412 am1413 am1414 am1415))))) else (qm_in (x2 - 1) 32 && (qm_in x1 32 && (qm_set am145 x1.toNatClampNeg (vp_nar .byte (qm_r am141 (x2 - 1).toNatClampNeg)) (fun am145_264 => qm_let (x1 + 1) (fun x1_265 => J24 x1_265 fc am141 am142 am143 am144 am145_264 am146 am147 am148 am149 am1410 am1411 am1412 am1413 am1414 am1415)))))
theorem qs_code_48 {b_post : qb_P} {post : St2 → Prop} {b_J24 : qb_J2} {J24 : Int32 → Int32 → (Nat → Int32) → (Nat → Int32) → (Nat → Int32) → (Nat → Int32) → (Nat → Int32) → (Nat → Int32) → (Nat → Int32) → (Nat → Int32) → (Nat → Int32) → (Nat → Int32) → (Nat → Int32) → (Nat → Int32) → (Nat → Int64) → (Nat → Int32) → (Nat → Int32) → Prop} {x1 x2 fa fb fc fd fe : Int32} {am141 am142 am143 am144 am145 am146 am147 am148 am149 am1410 am1411 am1412 : List Int32} {am1413 : List Int64} {am1414 am1415 : List Int32} (h_post : qp_P b_post post) (h_J24 : qp_J2 b_J24 J24) (h : qm_code_48 b_post b_J24 x1 x2 fa fb fc fd fe am141 am142 am143 am144 am145 am146 am147 am148 am149 am1410 am1411 am1412 am1413 am1414 am1415 = true) : wX_code_48 post J24 x1 x2 fa fb fc fd fe (qm_r am141) (qm_r am142) (qm_r am143) (qm_r am144) (qm_r am145) (qm_r am146) (qm_r am147) (qm_r am148) (qm_r am149) (qm_r am1410) (qm_r am1411) (qm_r am1412) (qm_rL am1413) (qm_r am1414) (qm_r am1415) := by
  refine qm_iteI h (fun h => ?_) (fun h => ?_)
  · refine qm_inI h (fun h => ?_)
    refine qm_inI h (fun h => ?_)
    refine qm_setI h (fun am145_268 h => ?_)
    refine qm_letI h (fun x1_269 h => ?_)
    exact h_J24 _ _ _ _ _ _ _ _ _ _ _ _ _ _ _ _ _ h
  · refine qm_inI h (fun h => ?_)
    refine qm_inI h (fun h => ?_)
    refine qm_setI h (fun am145_264 h => ?_)
    refine qm_letI h (fun x1_265 h => ?_)
    exact h_J24 _ _ _ _ _ _ _ _ _ _ _ _ _ _ _ _ _ h
def qm_code_24 (post : qb_P) (fa fb fd fe : Int32) : Nat → Int32 → Int32 → List Int32 → List Int32 → List Int32 → List Int32 → List Int32 → List Int32 → List Int32 → List Int32 → List Int32 → List Int32 → List Int32 → List Int32 → List Int64 → List Int32 → List Int32 → Bool
  | 0 => fun _ _ _ _ _ _ _ _ _ _ _ _ _ _ _ _ _ => false
  | n + 1 => fun x1 fc am141 am142 am143 am144 am145 am146 am147 am148 am149 am1410 am1411 am1412 am1413 am1414 am1415 => if fa ≤ x1 then (qm_rankLetters (fun fa_55 fb_56 fc_57 fd_58 fe_59 am821_62 am822_65 am823_68 am824_71 am825_74 am826_77 am827_80 am828_83 am829_86 am8210_89 am8211_92 am8212_95 am8213_98 am8214_101 am8215_104 => qm_shortenRuns (fun fa_106 fb_107 fc_108 fd_109 fe_110 am861_113 am862_116 am863_119 am864_122 am865_125 am866_128 am867_131 am868_134 am869_137 am8610_140 am8611_143 am8612_146 am8613_149 am8614_152 am8615_155 => qm_findBits (fun fa_157 fb_158 fc_159 fd_160 fe_161 am901_164 am902_167 am903_170 am904_173 am905_176 am906_179 am907_182 am908_185 am909_188 am9010_191 am9011_194 am9012_197 am9013_200 am9014_203 am9015_206 => qm_writeBits (fun fa_208 fb_209 fc_210 fd_211 fe_212 am941_215 am942_218 am943_221 am944_224 am945_227 am946_230 am947_233 am948_236 am949_239 am9410_242 am9411_245 am9412_248 am9413_251 am9414_254 am9415_257 => post fa_208 fb_209 fc_210 fd_211 fe_212 am941_215 am942_218 am943_221 am944_224 am945_227 am946_230 am947_233 am948_236 am949_239 am9410_242 am9411_245 am9412_248 am9413_251 am9414_254 am9415_257) fa_157 fb_158 fc_159 fd_160 fe_161 am901_164 am902_167 am903_170 am904_173 am905_176 am906_179 am907_182 am908_185 am909_188 am9010_191 am9011_194 am9012_197 am9013_200 am9014_203 am9015_206) fa_106 fb_107 fc_108 fd_109 fe_110 am861_113 am862_116 am863_119 am864_122 am865_125 am866_128 am867_131 am868_134 am869_137 am8610_140 am8611_143 am8612_146 am8613_149 am8614_152 am8615_155) fa_55 fb_56 fc_57 fd_58 fe_59 am821_62 am822_65 am823_68 am824_71 am825_74 am826_77 am827_80 am828_83 am829_86 am8210_89 am8211_92 am8212_95 am8213_98 am8214_101 am8215_104) fa fb fc fd fe am141 am142 am143 am144 am145 am146 am147 am148 am149 am1410 am1411 am1412 am1413 am1414 am1415) else (qm_in x1 32 && (qm_let (qm_r am142 x1.toNatClampNeg) (fun x2_259 => if x2_259 = 0 then (qm_code_48 post (qm_code_24 post fa fb fd fe n) x1 x2_259 fa fb x1 fd fe am141 am142 am143 am144 am145 am146 am147 am148 am149 am1410 am1411 am1412 am1413 am1414 am1415) else (qm_code_48 post (qm_code_24 post fa fb fd fe n) x1 x2_259 fa fb fc fd fe am141 am142 am143 am144 am145 am146 am147 am148 am149 am1410 am1411 am1412 am1413 am1414 am1415))))
theorem qs_code_24 {b_post : qb_P} {post : St2 → Prop} {fa fb fd fe : Int32} (h_post : qp_P b_post post) : ∀ (n : Nat) (x1 fc : Int32) (am141 am142 am143 am144 am145 am146 am147 am148 am149 am1410 am1411 am1412 : List Int32) (am1413 : List Int64) (am1414 am1415 : List Int32), qm_code_24 b_post fa fb fd fe n x1 fc am141 am142 am143 am144 am145 am146 am147 am148 am149 am1410 am1411 am1412 am1413 am1414 am1415 = true → wX_code_24 post fa fb fd fe n x1 fc (qm_r am141) (qm_r am142) (qm_r am143) (qm_r am144) (qm_r am145) (qm_r am146) (qm_r am147) (qm_r am148) (qm_r am149) (qm_r am1410) (qm_r am1411) (qm_r am1412) (qm_rL am1413) (qm_r am1414) (qm_r am1415) := by
  intro n
  induction n with
  | zero => exact fun _ _ _ _ _ _ _ _ _ _ _ _ _ _ _ _ _ h => absurd h Bool.false_ne_true
  | succ n ih =>
    intro x1 fc am141 am142 am143 am144 am145 am146 am147 am148 am149 am1410 am1411 am1412 am1413 am1414 am1415 h
    refine qm_iteI h (fun h => ?_) (fun h => ?_)
    · refine qs_rankLetters (fun fa_55 fb_56 fc_57 fd_58 fe_59 am821_62 am822_65 am823_68 am824_71 am825_74 am826_77 am827_80 am828_83 am829_86 am8210_89 am8211_92 am8212_95 am8213_98 am8214_101 am8215_104 h => ?_) h
      refine qs_shortenRuns (fun fa_106 fb_107 fc_108 fd_109 fe_110 am861_113 am862_116 am863_119 am864_122 am865_125 am866_128 am867_131 am868_134 am869_137 am8610_140 am8611_143 am8612_146 am8613_149 am8614_152 am8615_155 h => ?_) h
      refine qs_findBits (fun fa_157 fb_158 fc_159 fd_160 fe_161 am901_164 am902_167 am903_170 am904_173 am905_176 am906_179 am907_182 am908_185 am909_188 am9010_191 am9011_194 am9012_197 am9013_200 am9014_203 am9015_206 h => ?_) h
      refine qs_writeBits (fun fa_208 fb_209 fc_210 fd_211 fe_212 am941_215 am942_218 am943_221 am944_224 am945_227 am946_230 am947_233 am948_236 am949_239 am9410_242 am9411_245 am9412_248 am9413_251 am9414_254 am9415_257 h => ?_) h
      exact h_post _ _ _ _ _ _ _ _ _ _ _ _ _ _ _ _ _ _ _ _ h
    · refine qm_inI h (fun h => ?_)
      refine qm_letI h (fun x2_259 h => ?_)
      refine qm_iteI h (fun h => ?_) (fun h => ?_)
      · exact qs_code_48 h_post ih h
      · exact qs_code_48 h_post ih h
def qm_code (post : qb_P) (fa fb fc fd fe : Int32) (a1 a2 a3 a4 a5 a6 a7 a8 a9 a10 a11 a12 : List Int32) (a13 : List Int64) (a14 a15 : List Int32) : Bool := if fb = 0 then (qm_sortRotations (fun fa_3 fb_4 fc_5 fd_6 fe_7 am141_10 am142_13 am143_16 am144_19 am145_22 am146_25 am147_28 am148_31 am149_34 am1410_37 am1411_40 am1412_43 am1413_46 am1414_49 am1415_52 => qm_code_24 post fa_3 fb_4 fd_6 fe_7 40 0 0 am141_10 am142_13 am143_16 am144_19 am145_22 am146_25 am147_28 am148_31 am149_34 am1410_37 am1411_40 am1412_43 am1413_46 am1414_49 am1415_52) fa 1 fc fd fe a1 a2 a3 a4 a5 a6 a7 a8 a9 a10 a11 a12 a13 a14 a15) else (post fa fb fc fd fe a1 a2 a3 a4 a5 a6 a7 a8 a9 a10 a11 a12 a13 a14 a15)
theorem qs_code {b_post : qb_P} {post : St2 → Prop} {fa fb fc fd fe : Int32} {a1 a2 a3 a4 a5 a6 a7 a8 a9 a10 a11 a12 : List Int32} {a13 : List Int64} {a14 a15 : List Int32} (h_post : qp_P b_post post) (h : qm_code b_post fa fb fc fd fe a1 a2 a3 a4 a5 a6 a7 a8 a9 a10 a11 a12 a13 a14 a15 = true) : wpX_code post (fa, fb, fc, fd, fe, qm_r a1, qm_r a2, qm_r a3, qm_r a4, qm_r a5, qm_r a6, qm_r a7, qm_r a8, qm_r a9, qm_r a10, qm_r a11, qm_r a12, qm_rL a13, qm_r a14, qm_r a15) := by
  refine qm_iteI h (fun h => ?_) (fun h => ?_)
  · refine qs_sortRotations (fun fa_3 fb_4 fc_5 fd_6 fe_7 am141_10 am142_13 am143_16 am144_19 am145_22 am146_25 am147_28 am148_31 am149_34 am1410_37 am1411_40 am1412_43 am1413_46 am1414_49 am1415_52 h => ?_) h
    refine ⟨40, ?_⟩
    exact qs_code_24 h_post _ _ _ _ _ _ _ _ _ _ _ _ _ _ _ _ _ _ h
  · exact h_post _ _ _ _ _ _ _ _ _ _ _ _ _ _ _ _ _ _ _ _ h
end
section
/-! printed by gen.py: the twins of readSymbols, symbolWith, undoRanks, undoRuns, undoSorting and their rows -/
def qm_symbolWith_2 (post : qb_I) (x1 x2 fa fb fc fd fe : Int32) (a1 a2 a3 a4 a5 a6 a7 a8 a9 a10 a11 a12 : List Int32) (a13 : List Int64) (a14 a15 : List Int32) : Nat → Int32 → Bool
  | 0 => fun _ => false
  | n + 1 => fun x3 => if 7 ≤ x3 then (post (-3)) else (qm_in x3 7 && (if (qm_r a11 x3.toNatClampNeg) = x1 then (qm_in x3 7 && (if (qm_r a12 x3.toNatClampNeg) = x2 then (post x3) else (qm_let (x3 + 1) (fun x3_7 => qm_symbolWith_2 post x1 x2 fa fb fc fd fe a1 a2 a3 a4 a5 a6 a7 a8 a9 a10 a11 a12 a13 a14 a15 n x3_7)))) else (qm_let (x3 + 1) (fun x3_4 => qm_symbolWith_2 post x1 x2 fa fb fc fd fe a1 a2 a3 a4 a5 a6 a7 a8 a9 a10 a11 a12 a13 a14 a15 n x3_4))))
theorem qs_symbolWith_2 {b_post : qb_I} {post : Int32 → Prop} {x1 x2 fa fb fc fd fe : Int32} {a1 a2 a3 a4 a5 a6 a7 a8 a9 a10 a11 a12 : List Int32} {a13 : List Int64} {a14 a15 : List Int32} (h_post : qp_I b_post post) : ∀ (n : Nat) (x3 : Int32), qm_symbolWith_2 b_post x1 x2 fa fb fc fd fe a1 a2 a3 a4 a5 a6 a7 a8 a9 a10 a11 a12 a13 a14 a15 n x3 = true → wX_symbolWith_2 post x1 x2 fa fb fc fd fe (qm_r a1) (qm_r a2) (qm_r a3) (qm_r a4) (qm_r a5) (qm_r a6) (qm_r a7) (qm_r a8) (qm_r a9) (qm_r a10) (qm_r a11) (qm_r a12) (qm_rL a13) (qm_r a14) (qm_r a15) n x3 := by
  intro n
  induction n with
  | zero => exact fun _ h => absurd h Bool.false_ne_true
  | succ n ih =>
    intro x3 h
    refine qm_iteI h (fun h => ?_) (fun h => ?_)
    · exact h_post _ h
    · refine qm_inI h (fun h => ?_)
      refine qm_iteI h (fun h => ?_) (fun h => ?_)
      · refine qm_inI h (fun h => ?_)
        refine qm_iteI h (fun h => ?_) (fun h => ?_)
        · exact h_post _ h
        · refine qm_letI h (fun x3_7 h => ?_)
          exact ih _ h
      · refine qm_letI h (fun x3_4 h => ?_)
        exact ih _ h
def qm_symbolWith (post : qb_I) (fa fb fc fd fe : Int32) (a1 a2 a3 a4 a5 a6 a7 a8 a9 a10 a11 a12 : List Int32) (a13 : List Int64) (a14 a15 : List Int32) (p0 p1 : Int32) : Bool := qm_symbolWith_2 post p0 p1 fa fb fc fd fe a1 a2 a3 a4 a5 a6 a7 a8 a9 a10 a11 a12 a13 a14 a15 40 0
theorem qs_symbolWith {b_post : qb_I} {post : Int32 → Prop} {fa fb fc fd fe : Int32} {a1 a2 a3 a4 a5 a6 a7 a8 a9 a10 a11 a12 : List Int32} {a13 : List Int64} {a14 a15 : List Int32} {p0 p1 : Int32} (h_post : qp_I b_post post) (h : qm_symbolWith b_post fa fb fc fd fe a1 a2 a3 a4 a5 a6 a7 a8 a9 a10 a11 a12 a13 a14 a15 p0 p1 = true) : wpX_symbolWith post (fa, fb, fc, fd, fe, qm_r a1, qm_r a2, qm_r a3, qm_r a4, qm_r a5, qm_r a6, qm_r a7, qm_r a8, qm_r a9, qm_r a10, qm_r a11, qm_r a12, qm_rL a13, qm_r a14, qm_r a15) p0 p1 := by
  refine ⟨40, ?_⟩
  exact qs_symbolWith_2 h_post _ _ h
def qm_readSymbols_9 (post : qb_R) (fa fb fc fd fe : Int32) : Nat → Int32 → Int32 → Int32 → Int32 → List Int32 → List Int32 → List Int32 → List Int32 → List Int32 → List Int32 → List Int32 → List Int32 → List Int32 → List Int32 → List Int32 → List Int32 → List Int64 → List Int32 → List Int32 → Bool
  | 0 => fun _ _ _ _ _ _ _ _ _ _ _ _ _ _ _ _ _ _ _ => false
  | n + 1 => fun x1 x2 x3 x4 a1 a2 a3 a4 a5 a6 a7 a8 a9 a10 a11 a12 a13 a14 a15 => if fe ≤ x4 then (post x1 fa fb fc fd fe a1 a2 a3 a4 a5 a6 a7 a8 a9 a10 a11 a12 a13 a14 a15) else (qm_in (x4 >>> ((6 : Int32) &&& 31)) 4 && (qm_let ((2 * x3) + (((((qm_rL a13 (x4 >>> ((6 : Int32) &&& 31)).toNatClampNeg).toUInt64 >>> ((x4 &&& 63).toInt64.toUInt64 &&& Int64.toUInt64 63)).toInt64) &&& 1).toInt32)) (fun x3_3 => qm_let (x2 + 1) (fun x2_4 => qm_symbolWith (fun r_5 => if 0 ≤ r_5 then (qm_in x1 32 && (qm_set a14 x1.toNatClampNeg r_5.toInt8.toInt32 (fun a14_8 => qm_let (x1 + 1) (fun x1_9 => qm_let (x4 + 1) (fun x4_10 => qm_readSymbols_9 post fa fb fc fd fe n x1_9 0 0 x4_10 a1 a2 a3 a4 a5 a6 a7 a8 a9 a10 a11 a12 a13 a14_8 a15))))) else (qm_let (x4 + 1) (fun x4_11 => qm_readSymbols_9 post fa fb fc fd fe n x1 x2_4 x3_3 x4_11 a1 a2 a3 a4 a5 a6 a7 a8 a9 a10 a11 a12 a13 a14 a15))) fa fb fc fd fe a1 a2 a3 a4 a5 a6 a7 a8 a9 a10 a11 a12 a13 a14 a15 x2_4 x3_3))))
theorem qs_readSymbols_9 {b_post : qb_R} {post : Int32 → St2 → Prop} {fa fb fc fd fe : Int32} (h_post : qp_R b_post post) : ∀ (n : Nat) (x1 x2 x3 x4 : Int32) (a1 a2 a3 a4 a5 a6 a7 a8 a9 a10 a11 a12 : List Int32) (a13 : List Int64) (a14 a15 : List Int32), qm_readSymbols_9 b_post fa fb fc fd fe n x1 x2 x3 x4 a1 a2 a3 a4 a5 a6 a7 a8 a9 a10 a11 a12 a13 a14 a15 = true → wX_readSymbols_9 post fa fb fc fd fe n x1 x2 x3 x4 (qm_r a1) (qm_r a2) (qm_r a3) (qm_r a4) (qm_r a5) (qm_r a6) (qm_r a7) (qm_r a8) (qm_r a9) (qm_r a10) (qm_r a11) (qm_r a12) (qm_rL a13) (qm_r a14) (qm_r a15) := by
  intro n
  induction n with
  | zero => exact fun _ _ _ _ _ _ _ _ _ _ _ _ _ _ _ _ _ _ _ h => absurd h Bool.false_ne_true
  | succ n ih =>
    intro x1 x2 x3 x4 a1 a2 a3 a4 a5 a6 a7 a8 a9 a10 a11 a12 a13 a14 a15 h
    refine qm_iteI h (fun h => ?_) (fun h => ?_)
    · exact h_post _ _ _ _ _ _ _ _ _ _ _ _ _ _ _ _ _ _ _ _ _ h
    · refine qm_inI h (fun h => ?_)
      refine qm_letI h (fun x3_3 h => ?_)
      refine qm_letI h (fun x2_4 h => ?_)
      refine qs_symbolWith (fun r_5 h => ?_) h
      refine qm_iteI h (fun h => ?_) (fun h => ?_)
      · refine qm_inI h (fun h => ?_)
        refine qm_setI h (fun a14_8 h => ?_)
        refine qm_letI h (fun x1_9 h => ?_)
        refine qm_letI h (fun x4_10 h => ?_)
        exact ih _ _ _ _ _ _ _ _ _ _ _ _ _ _ _ _ _ _ _ h
      · refine qm_letI h (fun x4_11 h => ?_)
        exact ih _ _ _ _ _ _ _ _ _ _ _ _ _ _ _ _ _ _ _ h
def qm_readSymbols (post : qb_R) (fa fb fc fd fe : Int32) (a1 a2 a3 a4 a5 a6 a7 a8 a9 a10 a11 a12 : List Int32) (a13 : List Int64) (a14 a15 : List Int32) : Bool := qm_readSymbols_9 post fa fb fc fd fe 40 0 0 0 0 a1 a2 a3 a4 a5 a6 a7 a8 a9 a10 a11 a12 a13 a14 a15
theorem qs_readSymbols {b_post : qb_R} {post : Int32 → St2 → Prop} {fa fb fc fd fe : Int32} {a1 a2 a3 a4 a5 a6 a7 a8 a9 a10 a11 a12 : List Int32} {a13 : List Int64} {a14 a15 : List Int32} (h_post : qp_R b_post post) (h : qm_readSymbols b_post fa fb fc fd fe a1 a2 a3 a4 a5 a6 a7 a8 a9 a10 a11 a12 a13 a14 a15 = true) : wpX_readSymbols post (fa, fb, fc, fd, fe, qm_r a1, qm_r a2, qm_r a3, qm_r a4, qm_r a5, qm_r a6, qm_r a7, qm_r a8, qm_r a9, qm_r a10, qm_r a11, qm_r a12, qm_rL a13, qm_r a14, qm_r a15) := by
  refine ⟨40, ?_⟩
  exact qs_readSymbols_9 h_post _ _ _ _ _ _ _ _ _ _ _ _ _ _ _ _ _ _ _ _ h
def qm_undoRuns_58 (post : qb_R) (J7 : qb_J3) (x1 x2 x3 x4 x6 fa fb fc fd fe : Int32) : Nat → Int32 → List Int32 → List Int32 → List Int32 → List Int32 → List Int32 → List Int32 → List Int32 → List Int32 → List Int32 → List Int32 → List Int32 → List Int32 → List Int64 → List Int32 → List Int32 → Bool
  | 0 => fun _ _ _ _ _ _ _ _ _ _ _ _ _ _ _ _ => false
  | n + 1 => fun x7 a1 a2 a3 a4 a5 a6 a7 a8 a9 a10 a11 a12 a13 a14 a15 => if x6 ≤ x7 then (qm_let (x2 + x6) (fun x2_7 => qm_let (x3 * 2) (fun x3_8 => qm_let (x4 + 1) (fun x4_9 => J7 x2_7 x3_8 x4_9 a1 a2 a3 a4 a5 a6 a7 a8 a9 a10 a11 a12 a13 a14 a15)))) else (qm_in (x2 + x7) 32 && (qm_set a15 (x2 + x7).toNatClampNeg 0 (fun a15_11 => qm_let (x7 + 1) (fun x7_12 => qm_undoRuns_58 post J7 x1 x2 x3 x4 x6 fa fb fc fd fe n x7_12 a1 a2 a3 a4 a5 a6 a7 a8 a9 a10 a11 a12 a13 a14 a15_11))))
theorem qs_undoRuns_58 {b_post : qb_R} {post : Int32 → St2 → Prop} {b_J7 : qb_J3} {J7 : Int32 → Int32 → Int32 → (Nat → Int32) → (Nat → Int32) → (Nat → Int32) → (Nat → Int32) → (Nat → Int32) → (Nat → Int32) → (Nat → Int32) → (Nat → Int32) → (Nat → Int32) → (Nat → Int32) → (Nat → Int32) → (Nat → Int32) → (Nat → Int64) → (Nat → Int32) → (Nat → Int32) → Prop} {x1 x2 x3 x4 x6 fa fb fc fd fe : Int32} (h_post : qp_R b_post post) (h_J7 : qp_J3 b_J7 J7) : ∀ (n : Nat) (x7 : Int32) (a1 a2 a3 a4 a5 a6 a7 a8 a9 a10 a11 a12 : List Int32) (a13 : List Int64) (a14 a15 : List Int32), qm_undoRuns_58 b_post b_J7 x1 x2 x3 x4 x6 fa fb fc fd fe n x7 a1 a2 a3 a4 a5 a6 a7 a8 a9 a10 a11 a12 a13 a14 a15 = true → wX_undoRuns_58 post J7 x1 x2 x3 x4 x6 fa fb fc fd fe n x7 (qm_r a1) (qm_r a2) (qm_r a3) (qm_r a4) (qm_r a5) (qm_r a6) (qm_r a7) (qm_r a8) (qm_r a9) (qm_r a10) (qm_r a11) (qm_r a12) (qm_rL a13) (qm_r a14) (qm_r a15) := by
  intro n
  induction n with
  | zero => exact fun _ _ _ _ _ _ _ _ _ _ _ _ _ _ _ _ h => absurd h Bool.false_ne_true
  | succ n ih =>
    intro x7 a1 a2 a3 a4 a5 a6 a7 a8 a9 a10 a11 a12 a13 a14 a15 h
    refine qm_iteI h (fun h => ?_) (fun h => ?_)
    · refine qm_letI h (fun x2_7 h => ?_)
      refine qm_letI h (fun x3_8 h => ?_)
      refine qm_letI h (fun x4_9 h => ?_)
      exact h_J7 _ _ _ _ _ _ _ _ _ _ _ _ _ _ _ _ _ _ h
    · refine qm_inI h (fun h => ?_)
      refine qm_setI h (fun a15_11 h => ?_)
      refine qm_letI h (fun x7_12 h => ?_)
      exact ih _ _ _ _ _ _ _ _ _ _ _ _ _ _ _ _ h
def qm_undoRuns_7 (post : qb_R) (x1 fa fb fc fd fe : Int32) : Nat → Int32 → Int32 → Int32 → List Int32 → List Int32 → List Int32 → List Int32 → List Int32 → List Int32 → List Int32 → List Int32 → List Int32 → List Int32 → List Int32 → List Int32 → List Int64 → List Int32 → List Int32 → Bool
  | 0 => fun _ _ _ _ _ _ _ _ _ _ _ _ _ _ _ _ _ _ => false
  | n + 1 => fun x2 x3 x4 a1 a2 a3 a4 a5 a6 a7 a8 a9 a10 a11 a12 a13 a14 a15 => if x1 ≤ x4 then (post x2 fa fb fc fd fe a1 a2 a3 a4 a5 a6 a7 a8 a9 a10 a11 a12 a13 a14 a15) else (qm_in x4 32 && (qm_let (qm_r a14 x4.toNatClampNeg) (fun x5_3 => if x5_3 ≤ 1 then (qm_let (x3 * (x5_3 + 1)) (fun x6_5 => qm_undoRuns_58 post (qm_undoRuns_7 post x1 fa fb fc fd fe n) x1 x2 x3 x4 x6_5 fa fb fc fd fe 40 0 a1 a2 a3 a4 a5 a6 a7 a8 a9 a10 a11 a12 a13 a14 a15)) else (qm_in x2 32 && (qm_set a15 x2.toNatClampNeg ((x5_3 - 1).toInt8.toInt32) (fun a15_14 => qm_let (x2 + 1) (fun x2_15 => qm_let (x4 + 1) (fun x4_16 => qm_undoRuns_7 post x1 fa fb fc fd fe n x2_15 1 x4_16 a1 a2 a3 a4 a5 a6 a7 a8 a9 a10 a11 a12 a13 a14 a15_14))))))))
theorem qs_undoRuns_7 {b_post : qb_R} {post : Int32 → St2 → Prop} {x1 fa fb fc fd fe : Int32} (h_post : qp_R b_post post) : ∀ (n : Nat) (x2 x3 x4 : Int32) (a1 a2 a3 a4 a5 a6 a7 a8 a9 a10 a11 a12 : List Int32) (a13 : List Int64) (a14 a15 : List Int32), qm_undoRuns_7 b_post x1 fa fb fc fd fe n x2 x3 x4 a1 a2 a3 a4 a5 a6 a7 a8 a9 a10 a11 a12 a13 a14 a15 = true → wX_undoRuns_7 post x1 fa fb fc fd fe n x2 x3 x4 (qm_r a1) (qm_r a2) (qm_r a3) (qm_r a4) (qm_r a5) (qm_r a6) (qm_r a7) (qm_r a8) (qm_r a9) (qm_r a10) (qm_r a11) (qm_r a12) (qm_rL a13) (qm_r a14) (qm_r a15) := by
  intro n
  induction n with
  | zero => exact fun _ _ _ _ _ _ _ _ _ _ _ _ _ _ _ _ _ _ h => absurd h Bool.false_ne_true
  | succ n ih =>
    intro x2 x3 x4 a1 a2 a3 a4 a5 a6 a7 a8 a9 a10 a11 a12 a13 a14 a15 h
    refine qm_iteI h (fun h => ?_) (fun h => ?_)
    · exact h_post _ _ _ _ _ _ _ _ _ _ _ _ _ _ _ _ _ _ _ _ _ h
    · refine qm_inI h (fun h => ?_)
      refine qm_letI h (fun x5_3 h => ?_)
      refine qm_iteI h (fun h => ?_) (fun h => ?_)
      · refine qm_letI h (fun x6_5 h => ?_)
        refine ⟨40, ?_⟩
        exact qs_undoRuns_58 h_post ih _ _ _ _ _ _ _ _ _ _ _ _ _ _ _ _ _ h
      · refine qm_inI h (fun h => ?_)
        refine qm_setI h (fun a15_14 h => ?_)
        refine qm_letI h (fun x2_15 h => ?_)
        refine qm_letI h (fun x4_16 h => ?_)
        exact ih _ _ _ _ _ _ _ _ _ _ _ _ _ _ _ _ _ _ h
def qm_undoRuns (post : qb_R) (fa fb fc fd fe : Int32) (a1 a2 a3 a4 a5 a6 a7 a8 a9 a10 a11 a12 : List Int32) (a13 : List Int64) (a14 a15 : List Int32) (p0 : Int32) : Bool := qm_undoRuns_7 post p0 fa fb fc fd fe 40 0 1 0 a1 a2 a3 a4 a5 a6 a7 a8 a9 a10 a11 a12 a13 a14 a15
theorem qs_undoRuns {b_post : qb_R} {post : Int32 → St2 → Prop} {fa fb fc fd fe : Int32} {a1 a2 a3 a4 a5 a6 a7 a8 a9 a10 a11 a12 : List Int32} {a13 : List Int64} {a14 a15 : List Int32} {p0 : Int32} (h_post : qp_R b_post post) (h : qm_undoRuns b_post fa fb fc fd fe a1 a2 a3 a4 a5 a6 a7 a8 a9 a10 a11 a12 a13 a14 a15 p0 = true) : wpX_undoRuns post (fa, fb, fc, fd, fe, qm_r a1, qm_r a2, qm_r a3, qm_r a4, qm_r a5, qm_r a6, qm_r a7, qm_r a8, qm_r a9, qm_r a10, qm_r a11, qm_r a12, qm_rL a13, qm_r a14, qm_r a15) p0 := by
  refine ⟨40, ?_⟩
  exact qs_undoRuns_7 h_post _ _ _ _ _ _ _ _ _ _ _ _ _ _ _ _ _ _ _ h
def qm_undoRanks_6 (post : qb_P) (x1 : Int32) : Nat → Int32 → Int32 → Int32 → Int32 → Int32 → Int32 → List Int32 → List Int32 → List Int32 → List Int32 → List Int32 → List Int32 → List Int32 → List Int32 → List Int32 → List Int32 → List Int32 → List Int32 → List Int64 → List Int32 → List Int32 → Bool
  | 0 => fun _ _ _ _ _ _ _ _ _ _ _ _ _ _ _ _ _ _ _ _ _ => false
  | n + 1 => fun x2 fa fb fc fd fe am11 am12 am13 am14 am15 am16 am17 am18 am19 am110 am111 am112 am113 am114 am115 => if x1 ≤ x2 then (post fa fb fc fd fe am11 am12 am13 am14 am15 am16 am17 am18 am19 am110 am111 am112 am113 am114 am115) else (qm_in x2 32 && (qm_let (qm_r am115 x2.toNatClampNeg) (fun x3_54 => qm_in x3_54 6 && (qm_in x2 32 && (qm_set am114 x2.toNatClampNeg (vp_nar .byte (qm_r am18 x3_54.toNatClampNeg)) (fun am114_57 => qm_toFront (fun fa_59 fb_60 fc_61 fd_62 fe_63 am321_66 am322_69 am323_72 am324_75 am325_78 am326_81 am327_84 am328_87 am329_90 am3210_93 am3211_96 am3212_99 am3213_102 am3214_105 am3215_108 => qm_let (x2 + 1) (fun x2_109 => qm_undoRanks_6 post x1 n x2_109 fa_59 fb_60 fc_61 fd_62 fe_63 am321_66 am322_69 am323_72 am324_75 am325_78 am326_81 am327_84 am328_87 am329_90 am3210_93 am3211_96 am3212_99 am3213_102 am3214_105 am3215_108)) fa fb fc fd fe am11 am12 am13 am14 am15 am16 am17 am18 am19 am110 am111 am112 am113 am114_57 am115 x3_54))))))
theorem qs_undoRanks_6 {b_post : qb_P} {post : St2 → Prop} {x1 : Int32} (h_post : qp_P b_post post) : ∀ (n : Nat) (x2 fa fb fc fd fe : Int32) (am11 am12 am13 am14 am15 am16 am17 am18 am19 am110 am111 am112 : List Int32) (am113 : List Int64) (am114 am115 : List Int32), qm_undoRanks_6 b_post x1 n x2 fa fb fc fd fe am11 am12 am13 am14 am15 am16 am17 am18 am19 am110 am111 am112 am113 am114 am115 = true → wX_undoRanks_6 post x1 n x2 fa fb fc fd fe (qm_r am11) (qm_r am12) (qm_r am13) (qm_r am14) (qm_r am15) (qm_r am16) (qm_r am17) (qm_r am18) (qm_r am19) (qm_r am110) (qm_r am111) (qm_r am112) (qm_rL am113) (qm_r am114) (qm_r am115) := by
  intro n
  induction n with
  | zero => exact fun _ _ _ _ _ _ _ _ _ _ _ _ _ _ _ _ _ _ _ _ _ h => absurd h Bool.false_ne_true
  | succ n ih =>
    intro x2 fa fb fc fd fe am11 am12 am13 am14 am15 am16 am17 am18 am19 am110 am111 am112 am113 am114 am115 h
    refine qm_iteI h (fun h => ?_) (fun h => ?_)
    · exact h_post _ _ _ _ _ _ _ _ _ _ _ _ _ _ _ _ _ _ _ _ h
    · refine qm_inI h (fun h => ?_)
      refine qm_letI h (fun x3_54 h => ?_)
      refine qm_inI h (fun h => ?_)
      refine qm_inI h (fun h => ?_)
      refine qm_setI h (fun am114_57 h => ?_)
      refine qs_toFront (fun fa_59 fb_60 fc_61 fd_62 fe_63 am321_66 am322_69 am323_72 am324_75 am325_78 am326_81 am327_84 am328_87 am329_90 am3210_93 am3211_96 am3212_99 am3213_102 am3214_105 am3215_108 h => ?_) h
      refine qm_letI h (fun x2_109 h => ?_)
      exact ih _ _ _ _ _ _ _ _ _ _ _ _ _ _ _ _ _ _ _ _ _ h
def qm_undoRanks (post : qb_P) (fa fb fc fd fe : Int32) (a1 a2 a3 a4 a5 a6 a7 a8 a9 a10 a11 a12 : List Int32) (a13 : List Int64) (a14 a15 : List Int32) (p0 : Int32) : Bool := qm_resetRow (fun fa_2 fb_3 fc_4 fd_5 fe_6 am11_9 am12_12 am13_15 am14_18 am15_21 am16_24 am17_27 am18_30 am19_33 am110_36 am111_39 am112_42 am113_45 am114_48 am115_51 => qm_undoRanks_6 post p0 40 0 fa_2 fb_3 fc_4 fd_5 fe_6 am11_9 am12_12 am13_15 am14_18 am15_21 am16_24 am17_27 am18_30 am19_33 am110_36 am111_39 am112_42 am113_45 am114_48 am115_51) fa fb fc fd fe a1 a2 a3 a4 a5 a6 a7 a8 a9 a10 a11 a12 a13 a14 a15
theorem qs_undoRanks {b_post : qb_P} {post : St2 → Prop} {fa fb fc fd fe : Int32} {a1 a2 a3 a4 a5 a6 a7 a8 a9 a10 a11 a12 : List Int32} {a13 : List Int64} {a14 a15 : List Int32} {p0 : Int32} (h_post : qp_P b_post post) (h : qm_undoRanks b_post fa fb fc fd fe a1 a2 a3 a4 a5 a6 a7 a8 a9 a10 a11 a12 a13 a14 a15 p0 = true) : wpX_undoRanks post (fa, fb, fc, fd, fe, qm_r a1, qm_r a2, qm_r a3, qm_r a4, qm_r a5, qm_r a6, qm_r a7, qm_r a8, qm_r a9, qm_r a10, qm_r a11, qm_r a12, qm_rL a13, qm_r a14, qm_r a15) p0 := by
  unfold wpX_undoRanks
  unfold qm_undoRanks at h
  refine qs_resetRow (fun fa_2 fb_3 fc_4 fd_5 fe_6 am11_9 am12_12 am13_15 am14_18 am15_21 am16_24 am17_27 am18_30 am19_33 am110_36 am111_39 am112_42 am113_45 am114_48 am115_51 h => ?_) h
  refine ⟨40, ?_⟩
  exact qs_undoRanks_6 h_post _ _ _ _ _ _ _ _ _ _ _ _ _ _ _ _ _ _ _ _ _ _ h
def qm_undoSorting_90 (post : qb_P) (x1 fa fb fc fd fe : Int32) : Nat → Int32 → Int32 → List Int32 → List Int32 → List Int32 → List Int32 → List Int32 → List Int32 → List Int32 → List Int32 → List Int32 → List Int32 → List Int32 → List Int32 → List Int64 → List Int32 → List Int32 → Bool
  | 0 => fun _ _ _ _ _ _ _ _ _ _ _ _ _ _ _ _ _ => false
  | n + 1 => fun x3 x4 a1 a2 a3 a4 a5 a6 a7 a8 a9 a10 a11 a12 a13 a14 a15 => if x1 ≤ x4 then (post fa fb fc fd fe a1 a2 a3 a4 a5 a6 a7 a8 a9 a10 a11 a12 a13 a14 a15) else (qm_in x3 32 && (qm_let (qm_r a15 x3.toNatClampNeg) (fun x3_5 => qm_in x3_5 32 && (qm_in x4 32 && (qm_set a14 x4.toNatClampNeg (vp_nar .byte (qm_r a4 x3_5.toNatClampNeg)) (fun a14_8 => qm_let (x4 + 1) (fun x4_9 => qm_undoSorting_90 post x1 fa fb fc fd fe n x3_5 x4_9 a1 a2 a3 a4 a5 a6 a7 a8 a9 a10 a11 a12 a13 a14_8 a15)))))))
theorem qs_undoSorting_90 {b_post : qb_P} {post : St2 → Prop} {x1 fa fb fc fd fe : Int32} (h_post : qp_P b_post post) : ∀ (n : Nat) (x3 x4 : Int32) (a1 a2 a3 a4 a5 a6 a7 a8 a9 a10 a11 a12 : List Int32) (a13 : List Int64) (a14 a15 : List Int32), qm_undoSorting_90 b_post x1 fa fb fc fd fe n x3 x4 a1 a2 a3 a4 a5 a6 a7 a8 a9 a10 a11 a12 a13 a14 a15 = true → wX_undoSorting_90 post x1 fa fb fc fd fe n x3 x4 (qm_r a1) (qm_r a2) (qm_r a3) (qm_r a4) (qm_r a5) (qm_r a6) (qm_r a7) (qm_r a8) (qm_r a9) (qm_r a10) (qm_r a11) (qm_r a12) (qm_rL a13) (qm_r a14) (qm_r a15) := by
  intro n
  induction n with
  | zero => exact fun _ _ _ _ _ _ _ _ _ _ _ _ _ _ _ _ _ h => absurd h Bool.false_ne_true
  | succ n ih =>
    intro x3 x4 a1 a2 a3 a4 a5 a6 a7 a8 a9 a10 a11 a12 a13 a14 a15 h
    refine qm_iteI h (fun h => ?_) (fun h => ?_)
    · exact h_post _ _ _ _ _ _ _ _ _ _ _ _ _ _ _ _ _ _ _ _ h
    · refine qm_inI h (fun h => ?_)
      refine qm_letI h (fun x3_5 h => ?_)
      refine qm_inI h (fun h => ?_)
      refine qm_inI h (fun h => ?_)
      refine qm_setI h (fun a14_8 h => ?_)
      refine qm_letI h (fun x4_9 h => ?_)
      exact ih _ _ _ _ _ _ _ _ _ _ _ _ _ _ _ _ _ h
def qm_undoSorting_59 (post : qb_P) (x1 fa fb fc fd fe : Int32) : Nat → Int32 → List Int32 → List Int32 → List Int32 → List Int32 → List Int32 → List Int32 → List Int32 → List Int32 → List Int32 → List Int32 → List Int32 → List Int32 → List Int64 → List Int32 → List Int32 → Bool
  | 0 => fun _ _ _ _ _ _ _ _ _ _ _ _ _ _ _ _ => false
  | n + 1 => fun x3 a1 a2 a3 a4 a5 a6 a7 a8 a9 a10 a11 a12 a13 a14 a15 => if x1 ≤ x3 then (qm_undoSorting_90 post x1 fa fb fc fd fe 40 fc 0 a1 a2 a3 a4 a5 a6 a7 a8 a9 a10 a11 a12 a13 a14 a15) else (qm_in x3 32 && (qm_in x3 32 && (qm_set a4 x3.toNatClampNeg (vp_nar .byte (qm_r a14 x3.toNatClampNeg)) (fun a4_12 => qm_let (x3 + 1) (fun x3_13 => qm_undoSorting_59 post x1 fa fb fc fd fe n x3_13 a1 a2 a3 a4_12 a5 a6 a7 a8 a9 a10 a11 a12 a13 a14 a15)))))
theorem qs_undoSorting_59 {b_post : qb_P} {post : St2 → Prop} {x1 fa fb fc fd fe : Int32} (h_post : qp_P b_post post) : ∀ (n : Nat) (x3 : Int32) (a1 a2 a3 a4 a5 a6 a7 a8 a9 a10 a11 a12 : List Int32) (a13 : List Int64) (a14 a15 : List Int32), qm_undoSorting_59 b_post x1 fa fb fc fd fe n x3 a1 a2 a3 a4 a5 a6 a7 a8 a9 a10 a11 a12 a13 a14 a15 = true → wX_undoSorting_59 post x1 fa fb fc fd fe n x3 (qm_r a1) (qm_r a2) (qm_r a3) (qm_r a4) (qm_r a5) (qm_r a6) (qm_r a7) (qm_r a8) (qm_r a9) (qm_r a10) (qm_r a11) (qm_r a12) (qm_rL a13) (qm_r a14) (qm_r a15) := by
  intro n
  induction n with
  | zero => exact fun _ _ _ _ _ _ _ _ _ _ _ _ _ _ _ _ h => absurd h Bool.false_ne_true
  | succ n ih =>
    intro x3 a1 a2 a3 a4 a5 a6 a7 a8 a9 a10 a11 a12 a13 a14 a15 h
    refine qm_iteI h (fun h => ?_) (fun h => ?_)
    · refine ⟨40, ?_⟩
      exact qs_undoSorting_90 h_post _ _ _ _ _ _ _ _ _ _ _ _ _ _ _ _ _ _ h
    · refine qm_inI h (fun h => ?_)
      refine qm_inI h (fun h => ?_)
      refine qm_setI h (fun a4_12 h => ?_)
      refine qm_letI h (fun x3_13 h => ?_)
      exact ih _ _ _ _ _ _ _ _ _ _ _ _ _ _ _ _ h
def qm_undoSorting_13 (post : qb_P) (J4 : qb_J2) (x1 x3 fa fb fc fd fe : Int32) : Nat → Int32 → Int32 → List Int32 → List Int32 → List Int32 → List Int32 → List Int32 → List Int32 → List Int32 → List Int32 → List Int32 → List Int32 → List Int32 → List Int32 → List Int64 → List Int32 → List Int32 → Bool
  | 0 => fun _ _ _ _ _ _ _ _ _ _ _ _ _ _ _ _ _ => false
  | n + 1 => fun x2 x4 a1 a2 a3 a4 a5 a6 a7 a8 a9 a10 a11 a12 a13 a14 a15 => if x1 ≤ x4 then (qm_let (x3 + 1) (fun x3_15 => J4 x2 x3_15 a1 a2 a3 a4 a5 a6 a7 a8 a9 a10 a11 a12 a13 a14 a15)) else (qm_in x4 32 && (if (qm_r a14 x4.toNatClampNeg) = x3 then (qm_in x2 32 && (qm_set a15 x2.toNatClampNeg x4.toInt8.toInt32 (fun a15_19 => qm_let (x2 + 1) (fun x2_20 => qm_let (x4 + 1) (fun x4_21 => qm_undoSorting_13 post J4 x1 x3 fa fb fc fd fe n x2_20 x4_21 a1 a2 a3 a4 a5 a6 a7 a8 a9 a10 a11 a12 a13 a14 a15_19))))) else (qm_let (x4 + 1) (fun x4_22 => qm_undoSorting_13 post J4 x1 x3 fa fb fc fd fe n x2 x4_22 a1 a2 a3 a4 a5 a6 a7 a8 a9 a10 a11 a12 a13 a14 a15))))
theorem qs_undoSorting_13 {b_post : qb_P} {post : St2 → Prop} {b_J4 : qb_J2} {J4 : Int32 → Int32 → (Nat → Int32) → (Nat → Int32) → (Nat → Int32) → (Nat → Int32) → (Nat → Int32) → (Nat → Int32) → (Nat → Int32) → (Nat → Int32) → (Nat → Int32) → (Nat → Int32) → (Nat → Int32) → (Nat → Int32) → (Nat → Int64) → (Nat → Int32) → (Nat → Int32) → Prop} {x1 x3 fa fb fc fd fe : Int32} (h_post : qp_P b_post post) (h_J4 : qp_J2 b_J4 J4) : ∀ (n : Nat) (x2 x4 : Int32) (a1 a2 a3 a4 a5 a6 a7 a8 a9 a10 a11 a12 : List Int32) (a13 : List Int64) (a14 a15 : List Int32), qm_undoSorting_13 b_post b_J4 x1 x3 fa fb fc fd fe n x2 x4 a1 a2 a3 a4 a5 a6 a7 a8 a9 a10 a11 a12 a13 a14 a15 = true → wX_undoSorting_13 post J4 x1 x3 fa fb fc fd fe n x2 x4 (qm_r a1) (qm_r a2) (qm_r a3) (qm_r a4) (qm_r a5) (qm_r a6) (qm_r a7) (qm_r a8) (qm_r a9) (qm_r a10) (qm_r a11) (qm_r a12) (qm_rL a13) (qm_r a14) (qm_r a15) := by
  intro n
  induction n with
  | zero => exact fun _ _ _ _ _ _ _ _ _ _ _ _ _ _ _ _ _ h => absurd h Bool.false_ne_true
  | succ n ih =>
    intro x2 x4 a1 a2 a3 a4 a5 a6 a7 a8 a9 a10 a11 a12 a13 a14 a15 h
    refine qm_iteI h (fun h => ?_) (fun h => ?_)
    · refine qm_letI h (fun x3_15 h => ?_)
      exact h_J4 _ _ _ _ _ _ _ _ _ _ _ _ _ _ _ _ _ h
    · refine qm_inI h (fun h => ?_)
      refine qm_iteI h (fun h => ?_) (fun h => ?_)
      · refine qm_inI h (fun h => ?_)
        refine qm_setI h (fun a15_19 h => ?_)
        refine qm_letI h (fun x2_20 h => ?_)
        refine qm_letI h (fun x4_21 h => ?_)
        exact ih _ _ _ _ _ _ _ _ _ _ _ _ _ _ _ _ _ h
      · refine qm_letI h (fun x4_22 h => ?_)
        exact ih _ _ _ _ _ _ _ _ _ _ _ _ _ _ _ _ _ h
def qm_undoSorting_4 (post : qb_P) (x1 fa fb fc fd fe : Int32) : Nat → Int32 → Int32 → List Int32 → List Int32 → List Int32 → List Int32 → List Int32 → List Int32 → List Int32 → List Int32 → List Int32 → List Int32 → List Int32 → List Int32 → List Int64 → List Int32 → List Int32 → Bool
  | 0 => fun _ _ _ _ _ _ _ _ _ _ _ _ _ _ _ _ _ => false
  | n + 1 => fun x2 x3 a1 a2 a3 a4 a5 a6 a7 a8 a9 a10 a11 a12 a13 a14 a15 => if 6 ≤ x3 then (qm_undoSorting_59 post x1 fa fb fc fd fe 40 0 a1 a2 a3 a4 a5 a6 a7 a8 a9 a10 a11 a12 a13 a14 a15) else (qm_undoSorting_13 post (qm_undoSorting_4 post x1 fa fb fc fd fe n) x1 x3 fa fb fc fd fe 40 x2 0 a1 a2 a3 a4 a5 a6 a7 a8 a9 a10 a11 a12 a13 a14 a15)
theorem qs_undoSorting_4 {b_post : qb_P} {post : St2 → Prop} {x1 fa fb fc fd fe : Int32} (h_post : qp_P b_post post) : ∀ (n : Nat) (x2 x3 : Int32) (a1 a2 a3 a4 a5 a6 a7 a8 a9 a10 a11 a12 : List Int32) (a13 : List Int64) (a14 a15 : List Int32), qm_undoSorting_4 b_post x1 fa fb fc fd fe n x2 x3 a1 a2 a3 a4 a5 a6 a7 a8 a9 a10 a11 a12 a13 a14 a15 = true → wX_undoSorting_4 post x1 fa fb fc fd fe n x2 x3 (qm_r a1) (qm_r a2) (qm_r a3) (qm_r a4) (qm_r a5) (qm_r a6) (qm_r a7) (qm_r a8) (qm_r a9) (qm_r a10) (qm_r a11) (qm_r a12) (qm_rL a13) (qm_r a14) (qm_r a15) := by
  intro n
  induction n with
  | zero => exact fun _ _ _ _ _ _ _ _ _ _ _ _ _ _ _ _ _ h => absurd h Bool.false_ne_true
  | succ n ih =>
    intro x2 x3 a1 a2 a3 a4 a5 a6 a7 a8 a9 a10 a11 a12 a13 a14 a15 h
    refine qm_iteI h (fun h => ?_) (fun h => ?_)
    · refine ⟨40, ?_⟩
      exact qs_undoSorting_59 h_post _ _ _ _ _ _ _ _ _ _ _ _ _ _ _ _ _ h
    · refine ⟨40, ?_⟩
      exact qs_undoSorting_13 h_post ih _ _ _ _ _ _ _ _ _ _ _ _ _ _ _ _ _ _ h
def qm_undoSorting (post : qb_P) (fa fb fc fd fe : Int32) (a1 a2 a3 a4 a5 a6 a7 a8 a9 a10 a11 a12 : List Int32) (a13 : List Int64) (a14 a15 : List Int32) (p0 : Int32) : Bool := qm_undoSorting_4 post p0 fa fb fc fd fe 40 0 0 a1 a2 a3 a4 a5 a6 a7 a8 a9 a10 a11 a12 a13 a14 a15
theorem qs_undoSorting {b_post : qb_P} {post : St2 → Prop} {fa fb fc fd fe : Int32} {a1 a2 a3 a4 a5 a6 a7 a8 a9 a10 a11 a12 : List Int32} {a13 : List Int64} {a14 a15 : List Int32} {p0 : Int32} (h_post : qp_P b_post post) (h : qm_undoSorting b_post fa fb fc fd fe a1 a2 a3 a4 a5 a6 a7 a8 a9 a10 a11 a12 a13 a14 a15 p0 = true) : wpX_undoSorting post (fa, fb, fc, fd, fe, qm_r a1, qm_r a2, qm_r a3, qm_r a4, qm_r a5, qm_r a6, qm_r a7, qm_r a8, qm_r a9, qm_r a10, qm_r a11, qm_r a12, qm_rL a13, qm_r a14, qm_r a15) p0 := by
  refine ⟨40, ?_⟩
  exact qs_undoSorting_4 h_post _ _ _ _ _ _ _ _ _ _ _ _ _ _ _ _ _ _ h
end
section
/-! what the law's checks ask of the coded state, and the run whose answer they are, as twins -/
def qm_end (p q : Int32) : qb_P := fun fa fb fc fd fe a1 a2 a3 a4 a5 a6 a7 a8 a9 a10 a11 a12 a13 a14 a15 => decide (fa = 4) && (decide (qm_r a14 0 = p) && (decide (qm_r a14 1 = q) && (decide (qm_r a14 2 = p) && (decide (qm_r a14 3 = q)))))
def qm_dec (p q : Int32) : qb_P := fun fa fb fc fd fe a1 a2 a3 a4 a5 a6 a7 a8 a9 a10 a11 a12 a13 a14 a15 => qm_readSymbols (fun r fa fb fc fd fe a1 a2 a3 a4 a5 a6 a7 a8 a9 a10 a11 a12 a13 a14 a15 => qm_undoRuns (fun r2 fa fb fc fd fe a1 a2 a3 a4 a5 a6 a7 a8 a9 a10 a11 a12 a13 a14 a15 => qm_undoRanks (fun fa fb fc fd fe a1 a2 a3 a4 a5 a6 a7 a8 a9 a10 a11 a12 a13 a14 a15 => qm_undoSorting (qm_end p q) fa fb fc fd fe a1 a2 a3 a4 a5 a6 a7 a8 a9 a10 a11 a12 a13 a14 a15 r2) fa fb fc fd fe a1 a2 a3 a4 a5 a6 a7 a8 a9 a10 a11 a12 a13 a14 a15 r2) fa fb fc fd fe a1 a2 a3 a4 a5 a6 a7 a8 a9 a10 a11 a12 a13 a14 a15 r) fa fb fc fd fe a1 a2 a3 a4 a5 a6 a7 a8 a9 a10 a11 a12 a13 a14 a15
def qm_chk (p q hi lo sec mk : Int32) : qb_P := fun fa fb fc fd fe a1 a2 a3 a4 a5 a6 a7 a8 a9 a10 a11 a12 a13 a14 a15 => decide (fa = 4) && (decide (fb = 1) && (decide (fc = mk) && (decide (qm_r a5 0 = hi) && (decide (qm_r a5 1 = hi) && (decide (qm_r a5 2 = lo) && (decide (qm_r a5 3 = lo) && (decide (qm_r a6 0 = hi) && (decide (qm_r a6 2 = sec) && (decide (qm_r a6 3 = 0) && qm_dec p q fa fb fc fd fe a1 a2 a3 a4 a5 a6 a7 a8 a9 a10 a11 a12 a13 a14 a15)))))))))
def qm_all (p q hi lo sec mk : Int32) : Bool := qm_type (fun r fa fb fc fd fe a1 a2 a3 a4 a5 a6 a7 a8 a9 a10 a11 a12 a13 a14 a15 => decide (r = 1) && qm_type (fun r fa fb fc fd fe a1 a2 a3 a4 a5 a6 a7 a8 a9 a10 a11 a12 a13 a14 a15 => decide (r = 2) && qm_repeat (fun r fa fb fc fd fe a1 a2 a3 a4 a5 a6 a7 a8 a9 a10 a11 a12 a13 a14 a15 => decide (r = 4) && qm_code (qm_chk p q hi lo sec mk) fa fb fc fd fe a1 a2 a3 a4 a5 a6 a7 a8 a9 a10 a11 a12 a13 a14 a15) fa fb fc fd fe a1 a2 a3 a4 a5 a6 a7 a8 a9 a10 a11 a12 a13 a14 a15 2) fa fb fc fd fe a1 a2 a3 a4 a5 a6 a7 a8 a9 a10 a11 a12 a13 a14 a15 q) 0 0 0 0 0 [] [] [] [] [] [] [] [] [] [] [] [] [] [] [] p
end
section
/-! the run itself: all texts pqpq over six letters -/
theorem qe_eq : ∀ p, p < 6 → qm_all (nI p) (nI p) (nI p) (nI p) 0 0 = true := by decide +kernel
theorem qe_lt : ∀ p, p < 6 → ∀ q, q < p → qm_all (nI q) (nI p) (nI p) (nI q) (nI q + 1) 0 = true := by decide +kernel
theorem qe_gt : ∀ p, p < 6 → ∀ q, q < p → qm_all (nI p) (nI q) (nI p) (nI q) (nI q + 1) 2 = true := by decide +kernel
end
section
/-! the law's rows -/
theorem qm_brI {c : Prop} {d : Decidable c} {A : Bool} {P Q : Prop} (h : (@decide c d && A) = true) (hA : A = true → P) : (c → P) ∧ (¬ c → Q) := by
  rw [Bool.and_eq_true] at h
  exact br_t (of_decide_eq_true h.1) (hA h.2)
theorem ql_250 {post : Int32 → St0 → Prop} {mc ms : Nat} {z0 z1 : Int32} {kc ks : Nat} {fb fc fd fe : Int32} {a1 a2 a3 a4 a5 a6 a7 a8 a9 a10 a11 a12 : Nat → Int32} {a13 : Nat → Int64} {a14 a15 : Nat → Int32} (h : z1 = z0) (hp : post 1 ()) : wL_lawOf_250 post mc ms z0 z1 kc ks 4 fb fc fd fe a1 a2 a3 a4 a5 a6 a7 a8 a9 a10 a11 a12 a13 a14 a15 :=
  br_t h (br_t rfl hp)
theorem ql_mark {post : Int32 → St2 → Prop} {fc fd fe : Int32} {a1 a2 a3 a4 a5 a6 a7 a8 a9 a10 a11 a12 : Nat → Int32} {a13 : Nat → Int64} {a14 a15 : Nat → Int32} (H : post fc (4, 1, fc, fd, fe, a1, a2, a3, a4, a5, a6, a7, a8, a9, a10, a11, a12, a13, a14, a15)) : wpX_mark post (4, 1, fc, fd, fe, a1, a2, a3, a4, a5, a6, a7, a8, a9, a10, a11, a12, a13, a14, a15) := by
  unfold wpX_mark
  exact br_f (by decide) (br_f (by decide) H)
theorem ql_rank {post : Int32 → St2 → Prop} {fc fd fe : Int32} {a1 a2 a3 a4 a5 a6 a7 a8 a9 a10 a11 a12 : Nat → Int32} {a13 : Nat → Int64} {a14 a15 : Nat → Int32} {p0 : Int32} (j : Nat) (hj : j < 4) (hp : p0 = nI j) (H : post (a6 j) (4, 1, fc, fd, fe, a1, a2, a3, a4, a5, a6, a7, a8, a9, a10, a11, a12, a13, a14, a15)) : wpX_rank post (4, 1, fc, fd, fe, a1, a2, a3, a4, a5, a6, a7, a8, a9, a10, a11, a12, a13, a14, a15) p0 := by
  subst hp
  unfold wpX_rank
  refine br_f (by decide) (br_f (nI_pos (by omega)) (br_t (nI_lt (b := 4) hj (by decide)) ⟨vp_in_nI (by omega) (by decide), ?_⟩))
  rw [nI_clamp (by omega)]
  exact H
theorem ql_column {post : Int32 → St2 → Prop} {p q hi lo sec mk : Int32} {fa fb fc fd fe : Int32} {a1 a2 a3 a4 a5 a6 a7 a8 a9 a10 a11 a12 : List Int32} {a13 : List Int64} {a14 a15 : List Int32} (h : qm_code (qm_chk p q hi lo sec mk) fa fb fc fd fe a1 a2 a3 a4 a5 a6 a7 a8 a9 a10 a11 a12 a13 a14 a15 = true) {p0 : Int32} (j : Nat) (hj : j < 4) (hp : p0 = nI j)
    (H : ∀ (fd fe : Int32) (a1 a2 a3 a4 a5 a6 a7 a8 a9 a10 a11 a12 : List Int32) (a13 : List Int64) (a14 a15 : List Int32), qm_r a5 0 = hi → qm_r a5 1 = hi → qm_r a5 2 = lo → qm_r a5 3 = lo → qm_r a6 0 = hi → qm_r a6 2 = sec → qm_r a6 3 = 0 → qm_dec p q 4 1 mk fd fe a1 a2 a3 a4 a5 a6 a7 a8 a9 a10 a11 a12 a13 a14 a15 = true → post (qm_r a5 j) (4, 1, mk, fd, fe, qm_r a1, qm_r a2, qm_r a3, qm_r a4, qm_r a5, qm_r a6, qm_r a7, qm_r a8, qm_r a9, qm_r a10, qm_r a11, qm_r a12, qm_rL a13, qm_r a14, qm_r a15)) :
    wpX_column post (fa, fb, fc, fd, fe, qm_r a1, qm_r a2, qm_r a3, qm_r a4, qm_r a5, qm_r a6, qm_r a7, qm_r a8, qm_r a9, qm_r a10, qm_r a11, qm_r a12, qm_rL a13, qm_r a14, qm_r a15) p0 := by
  subst hp
  unfold wpX_column
  refine qs_code (fun fa fb fc fd fe a1 a2 a3 a4 a5 a6 a7 a8 a9 a10 a11 a12 a13 a14 a15 h => ?_) h
  simp only [qm_chk, Bool.and_eq_true, decide_eq_true_eq] at h
  obtain ⟨h1, h2, h3, h4, h5, h6, h7, h8, h9, h10, h11⟩ := h
  subst h1 h2 h3
  refine br_f (nI_pos (by omega)) (br_t (nI_lt (b := 4) hj (by decide)) ⟨vp_in_nI (by omega) (by decide), ?_⟩)
  rw [nI_clamp (by omega)]
  exact H _ _ _ _ _ _ _ _ _ _ _ _ _ _ _ _ _ h4 h5 h6 h7 h8 h9 h10 h11
theorem ql_dec {post : Int32 → St2 → Prop} {p q fc fd fe : Int32} {a1 a2 a3 a4 a5 a6 a7 a8 a9 a10 a11 a12 : List Int32} {a13 : List Int64} {a14 a15 : List Int32} {x2 : Int32} (h : qm_dec p q 4 1 fc fd fe a1 a2 a3 a4 a5 a6 a7 a8 a9 a10 a11 a12 a13 a14 a15 = true)
    (H1 : x2 < 0 ∨ ¬ x2 ≤ 3 → post (-3) (4, 1, fc, fd, fe, qm_r a1, qm_r a2, qm_r a3, qm_r a4, qm_r a5, qm_r a6, qm_r a7, qm_r a8, qm_r a9, qm_r a10, qm_r a11, qm_r a12, qm_rL a13, qm_r a14, qm_r a15))
    (H2 : ∀ (r fb fc fd fe : Int32) (a1 a2 a3 a4 a5 a6 a7 a8 a9 a10 a11 a12 : List Int32) (a13 : List Int64) (a14 a15 : List Int32), ¬ x2 < 0 → x2 ≤ 3 → (x2 &&& 1 = 0 → r = p) → (¬ x2 &&& 1 = 0 → r = q) → post r (4, fb, fc, fd, fe, qm_r a1, qm_r a2, qm_r a3, qm_r a4, qm_r a5, qm_r a6, qm_r a7, qm_r a8, qm_r a9, qm_r a10, qm_r a11, qm_r a12, qm_rL a13, qm_r a14, qm_r a15)) :
    wpX_decoded post (4, 1, fc, fd, fe, qm_r a1, qm_r a2, qm_r a3, qm_r a4, qm_r a5, qm_r a6, qm_r a7, qm_r a8, qm_r a9, qm_r a10, qm_r a11, qm_r a12, qm_rL a13, qm_r a14, qm_r a15) x2 := by
  unfold wpX_decoded
  refine br_c (fun hn => H1 (Or.inl hn)) (fun hn => ?_)
  obtain ⟨j, hj, e⟩ := nI_of hn
  refine br_c (fun hl => ?_) (fun hl => H1 (Or.inr (fun h3 => hl ?_)))
  · subst e
    have hj4 : j < 4 := (nI_ltI (b := 4) hj (by decide)).mp hl
    refine br_f (by decide) ?_
    refine qs_readSymbols (fun r fa fb fc fd fe a1 a2 a3 a4 a5 a6 a7 a8 a9 a10 a11 a12 a13 a14 a15 h => ?_) h
    refine qs_undoRuns (fun r2 fa fb fc fd fe a1 a2 a3 a4 a5 a6 a7 a8 a9 a10 a11 a12 a13 a14 a15 h => ?_) h
    refine qs_undoRanks (fun fa fb fc fd fe a1 a2 a3 a4 a5 a6 a7 a8 a9 a10 a11 a12 a13 a14 a15 h => ?_) h
    refine qs_undoSorting (fun fa fb fc fd fe a1 a2 a3 a4 a5 a6 a7 a8 a9 a10 a11 a12 a13 a14 a15 h => ?_) h
    simp only [qm_end, Bool.and_eq_true, decide_eq_true_eq] at h
    obtain ⟨h1, e0, e1, e2, e3⟩ := h
    subst h1
    refine ⟨vp_in_nI (by omega) (by decide), ?_⟩
    rw [nI_clamp (by omega)]
    refine H2 _ _ _ _ _ _ _ _ _ _ _ _ _ _ _ _ _ _ _ _ hn (nI_le (b := 3) (by omega) (by decide)) ?_ ?_
    · intro hz
      match j, hj4 with
      | 0, _ => exact e0
      | 1, _ => exact absurd hz (by decide)
      | 2, _ => exact e2
      | 3, _ => exact absurd hz (by decide)
    · intro hz
      match j, hj4 with
      | 0, _ => exact absurd hz (by decide)
      | 1, _ => exact e1
      | 2, _ => exact absurd hz (by decide)
      | 3, _ => exact e3
  · subst e
    have h3' : j ≤ 3 := (nI_leI (b := 3) hj (by decide)).mp h3
    exact nI_lt (b := 4) (by omega) (by decide)
theorem ql_176 {post : Int32 → St0 → Prop} {mc ms : Nat} {x2 x3 x4 x6 x10 z0 z1 : Int32} {kc ks : Nat} {fc fd fe : Int32} {a1 a2 a3 a4 a5 a6 a7 a8 a9 a10 a11 a12 : List Int32} {a13 : List Int64} {a14 a15 : List Int32} (hz : z1 = z0) (e0 : qm_r a6 0 = x6) (e2 : qm_r a6 2 = x10) (e3 : qm_r a6 3 = 0) (hd : qm_dec x3 x4 4 1 fc fd fe a1 a2 a3 a4 a5 a6 a7 a8 a9 a10 a11 a12 a13 a14 a15 = true) (hp : post 1 ()) :
    wL_lawOf_176 post mc ms x2 x3 x4 x6 x10 z0 z1 kc ks 4 1 fc fd fe (qm_r a1) (qm_r a2) (qm_r a3) (qm_r a4) (qm_r a5) (qm_r a6) (qm_r a7) (qm_r a8) (qm_r a9) (qm_r a10) (qm_r a11) (qm_r a12) (qm_rL a13) (qm_r a14) (qm_r a15) := by
  unfold wL_lawOf_176
  refine br_t hz (ql_rank 0 (by decide) rfl (br_t e0 (ql_rank 2 (by decide) rfl (br_t e2 (ql_rank 3 (by decide) rfl (br_t e3 (ql_dec hd ?_ ?_)))))))
  · intro hr
    refine br_c (fun _ => ql_250 rfl hp) (fun hn => br_f ?_ (ql_250 rfl hp))
    exact hr.resolve_left hn
  · intro r fb fc fd fe a1 a2 a3 a4 a5 a6 a7 a8 a9 a10 a11 a12 a13 a14 a15 hn h3 ht hf
    exact br_f hn (br_t h3 (br_c (fun g => ql_250 (ht g) hp) (fun g => ql_250 (hf g) hp)))
theorem ql_init {post : St2 → Prop} (h : post (0, 0, 0, 0, 0, qm_r [], qm_r [], qm_r [], qm_r [], qm_r [], qm_r [], qm_r [], qm_r [], qm_r [], qm_r [], qm_r [], qm_r [], qm_rL [], qm_r [], qm_r [])) : wpX_init post 15 326 (0, 0, 0, 0, 0) :=
  ⟨by decide, by decide, by decide, by decide, by decide, by decide, by decide, by decide, by decide, by decide, by decide, by decide, by decide, by decide, by decide, by decide, by decide, by decide, by decide, by decide, by decide, by decide, by decide, by decide, by decide, by decide, by decide, by decide, by decide, by decide, h⟩
theorem ql_93 {post : Int32 → St0 → Prop} {x2 x3 x4 x5 hi lo x8 x9 sec mk : Int32} (H : qm_all x3 x4 hi lo sec mk = true) (k : Nat) (hk : k < 4) (h8 : x8 = nI k) (h9 : x9 = if k < 2 then hi else lo)
    (m1 : x5 = 0 → x4 ≤ x3 → mk = 2) (m2 : x5 = 0 → ¬ x4 ≤ x3 → mk = 0) (m3 : ¬ x5 = 0 → mk = 0) (hp : post 1 ()) :
    wL_lawOf_93 post 96 1536 x2 x3 x4 x5 hi x8 x9 sec 0 0 := by
  unfold wL_lawOf_93
  refine ⟨by decide, by decide, 15, 326, by decide, by decide, ql_init ?_⟩
  refine qs_type (fun r fa fb fc fd fe a1 a2 a3 a4 a5 a6 a7 a8 a9 a10 a11 a12 a13 a14 a15 h => ?_) H
  refine qm_brI h (fun h => ?_)
  refine qs_type (fun r fa fb fc fd fe a1 a2 a3 a4 a5 a6 a7 a8 a9 a10 a11 a12 a13 a14 a15 h => ?_) h
  refine qm_brI h (fun h => ?_)
  refine qs_repeat (fun r fa fb fc fd fe a1 a2 a3 a4 a5 a6 a7 a8 a9 a10 a11 a12 a13 a14 a15 h => ?_) h
  refine qm_brI h (fun h => ?_)
  refine ql_column h k hk h8 (fun fd fe a1 a2 a3 a4 a5 a6 a7 a8 a9 a10 a11 a12 a13 a14 a15 c0 c1 c2 c3 e0 e2 e3 hd => ?_)
  refine br_t ?_ (ql_mark ?_)
  · rw [h9]
    match k, hk with
    | 0, _ => exact c0
    | 1, _ => exact c1
    | 2, _ => exact c2
    | 3, _ => exact c3
  · refine br_c (fun g => br_c (fun g2 => ?_) (fun g2 => ?_)) (fun g => ?_)
    · exact ql_176 (m1 g g2) e0 e2 e3 hd hp
    · exact ql_176 (m2 g g2) e0 e2 e3 hd hp
    · exact ql_176 (m3 g) e0 e2 e3 hd hp
theorem ql_58 {post : Int32 → St0 → Prop} {x2 x3 x4 x5 hi lo sec mk : Int32} (H : qm_all x3 x4 hi lo sec mk = true) (s0 : x5 = 0 → sec = lo + 1) (s1 : ¬ x5 = 0 → sec = 0)
    (m1 : x5 = 0 → x4 ≤ x3 → mk = 2) (m2 : x5 = 0 → ¬ x4 ≤ x3 → mk = 0) (m3 : ¬ x5 = 0 → mk = 0) (hp : post 1 ()) :
    wL_lawOf_58 post 96 1536 x2 x3 x4 x5 hi lo 0 0 := by
  obtain ⟨k, hk, e⟩ := pk_andE x2 (m := 3) 2 (by decide)
  have hk4 : k < 4 := hk
  refine nm_r e ?_
  refine pk_le 2 k (fun z => ?_) (fun z => ?_)
  · refine br_c (fun g => ?_) (fun g => ?_)
    · rw [← s0 g]
      exact ql_93 H k hk4 rfl (if_neg (by omega)).symm m1 m2 m3 hp
    · rw [s1 g] at H
      exact ql_93 H k hk4 rfl (if_neg (by omega)).symm m1 m2 m3 hp
  · refine br_c (fun g => ?_) (fun g => ?_)
    · rw [← s0 g]
      exact ql_93 H k hk4 rfl (if_pos (by omega)).symm m1 m2 m3 hp
    · rw [s1 g] at H
      exact ql_93 H k hk4 rfl (if_pos (by omega)).symm m1 m2 m3 hp
theorem ql_6 (x : Int32) : ∃ p : Nat, p < 6 ∧ (x &&& 255) - (x &&& 255) / 6 * 6 = nI p := by
  obtain ⟨j, hj, e⟩ := pk_andE x (m := 255) 8 (by decide)
  refine ⟨j % 6, Nat.mod_lt _ (by decide), ?_⟩
  rw [e]
  exact pk_rem (d := 6) (by omega) (by decide) (by decide)
theorem ql_lawOf {post : Int32 → St0 → Prop} (p0 p1 p2 : Int32) (hp : post 1 ()) : wpL_lawOf post 96 1536 () p0 p1 p2 := by
  obtain ⟨p, p6, ep⟩ := ql_6 p0
  obtain ⟨q, q6, ek⟩ := ql_6 p1
  refine ⟨by decide, nm_r ep ⟨by decide, nm_r ek ?_⟩⟩
  rcases Nat.lt_trichotomy p q with z | z | z
  · have n1 : ¬ nI p = nI q := fun g => absurd ((nI_eq (by omega) (by omega)).mp g) (by omega)
    have n2 : nI p ≤ nI q := nI_le (by omega) (by omega)
    have n3 : ¬ nI q ≤ nI p := nI_ge z (by omega)
    refine br_f n1 (br_t n2 (br_t n2 ?_))
    exact ql_58 (qe_lt q q6 p z) (fun _ => rfl) (fun g => absurd rfl g) (fun _ g => absurd g n3) (fun _ _ => rfl) (fun g => absurd rfl g) hp
  · subst z
    have n2 : nI p ≤ nI p := nI_le (by omega) (by omega)
    refine br_t rfl (br_t n2 (br_t n2 ?_))
    exact ql_58 (qe_eq p p6) (fun g => absurd g (by decide)) (fun _ => rfl) (fun g => absurd g (by decide)) (fun g => absurd g (by decide)) (fun _ => rfl) hp
  · have n1 : ¬ nI p = nI q := fun g => absurd ((nI_eq (by omega) (by omega)).mp g) (by omega)
    have n2 : ¬ nI p ≤ nI q := nI_ge z (by omega)
    have n3 : nI q ≤ nI p := nI_le (by omega) (by omega)
    refine br_f n1 (br_f n2 (br_f n2 ?_))
    exact ql_58 (qe_gt p p6 q z) (fun _ => rfl) (fun g => absurd rfl g) (fun _ _ => rfl) (fun _ g => absurd n3 g) (fun g => absurd rfl g) hp
end
section
/-! the owed row -/
theorem ql_cell {post : Int32 → Prop} {L : Nat} {xs : Nat → Int32} (hL : L ≤ 3) (j : Nat) (hj : j < 3) (H : ∀ r, post r) : wpL_cellAt post L xs () (nI j) :=
  pk_le L j (fun _ => H _) (fun z => ⟨vp_in_nI z (by omega), H _⟩)
theorem i_vc (xs : Nat → Int32) (L : Nat) (hL : L ≤ 3) : wpL_law (fun r => r = 1) L xs :=
  ql_cell hL 0 (by decide) (fun r1 => ql_cell hL 1 (by decide) (fun r2 => ql_cell hL 2 (by decide) (fun r3 => ⟨96, 1536, by decide, by decide, ql_lawOf r1 r2 r3 rfl⟩)))
end
