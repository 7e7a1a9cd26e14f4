section
/-- a version: its slot, number, content, marker -/
abbrev bv_V : Type := Nat × Int32 × Int32 × Int32
/-- a key with its chain, newest first -/
abbrev bv_E : Type := Nat × List bv_V
/-- all versions of a directory -/
def bv_vs : List bv_E → List bv_V
  | [] => []
  | e :: t => e.2 ++ bv_vs t
theorem bv_vs_nil : bv_vs [] = [] := rfl
theorem bv_vs_cons (e : bv_E) (t : List bv_E) : bv_vs (e :: t) = e.2 ++ bv_vs t := rfl
theorem bv_vs_app (A B : List bv_E) : bv_vs (A ++ B) = bv_vs A ++ bv_vs B := by
  induction A with
  | nil => rfl
  | cons e t ih => rw [List.cons_append, bv_vs_cons, bv_vs_cons, ih, List.append_assoc]
theorem bv_vs_mem {D : List bv_E} {v : bv_V} : v ∈ bv_vs D ↔ ∃ e ∈ D, v ∈ e.2 := by
  induction D with
  | nil => simp [bv_vs_nil]
  | cons e t ih => simp [bv_vs_cons, ih]
/-- from x along P to y -/
def bv_sg (o : Nat → Int32) : List bv_V → Int32 → Int32 → Prop
  | [] => fun x y => x = y
  | v :: t => fun x y => x = nI v.1 ∧ bv_sg o t (o v.1) y
theorem bv_sg_app {o : Nat → Int32} {P Q : List bv_V} {x y : Int32} : bv_sg o (P ++ Q) x y ↔ ∃ z, bv_sg o P x z ∧ bv_sg o Q z y := by
  induction P generalizing x with
  | nil =>
    constructor
    · intro h
      exact ⟨x, rfl, h⟩
    · rintro ⟨z, hz, h⟩
      have hz' : x = z := hz
      rw [hz']
      exact h
  | cons v t ih =>
    constructor
    · intro h
      obtain ⟨h1, h2⟩ := h
      obtain ⟨z, hz, h3⟩ := ih.mp h2
      exact ⟨z, ⟨h1, hz⟩, h3⟩
    · rintro ⟨z, ⟨h1, hz⟩, h⟩
      exact ⟨h1, ih.mpr ⟨z, hz, h⟩⟩
theorem bv_sg_congr {o o' : Nat → Int32} {P : List bv_V} {x y : Int32} (h : bv_sg o P x y) (ho : ∀ v ∈ P, o' v.1 = o v.1) : bv_sg o' P x y := by
  induction P generalizing x with
  | nil => exact h
  | cons v t ih =>
    obtain ⟨h1, h2⟩ := h
    refine ⟨h1, ?_⟩
    rw [ho v (List.mem_cons_self ..)]
    exact ih h2 (fun w hw => ho w (List.mem_cons_of_mem _ hw))
/-- the directory's rows from place i on -/
def bv_at (a1 a2 a7 : Nat → Int32) : List bv_E → Nat → Prop
  | [] => fun _ => True
  | e :: t => fun i => (a1 i = nI e.1 ∧ bv_sg a7 e.2 (a2 i) (-1)) ∧ bv_at a1 a2 a7 t (i + 1)
theorem bv_at_app {a1 a2 a7 : Nat → Int32} {A B : List bv_E} {i : Nat} : bv_at a1 a2 a7 (A ++ B) i ↔ bv_at a1 a2 a7 A i ∧ bv_at a1 a2 a7 B (i + A.length) := by
  induction A generalizing i with
  | nil => exact ⟨fun h => ⟨trivial, h⟩, fun h => h.2⟩
  | cons e t ih =>
    have e1 : i + (e :: t).length = (i + 1) + t.length := by
      rw [List.length_cons]
      omega
    rw [e1]
    constructor
    · intro h
      obtain ⟨h1, h2⟩ := h
      obtain ⟨h3, h4⟩ := ih.mp h2
      exact ⟨⟨h1, h3⟩, h4⟩
    · rintro ⟨⟨h1, h3⟩, h4⟩
      exact ⟨h1, ih.mpr ⟨h3, h4⟩⟩
theorem bv_at_congr {a1 a2 a7 b1 b2 b7 : Nat → Int32} {D : List bv_E} {i i' : Nat} (h : bv_at a1 a2 a7 D i) (hc : ∀ j, j < D.length → b1 (i' + j) = a1 (i + j) ∧ b2 (i' + j) = a2 (i + j)) (ho : ∀ v ∈ bv_vs D, b7 v.1 = a7 v.1) : bv_at b1 b2 b7 D i' := by
  induction D generalizing i i' with
  | nil => trivial
  | cons e t ih =>
    obtain ⟨⟨h1, h2⟩, h3⟩ := h
    obtain ⟨c1, c2⟩ := hc 0 (by rw [List.length_cons]; omega)
    rw [Nat.add_zero, Nat.add_zero] at c1 c2
    refine ⟨⟨by rw [c1]; exact h1, ?_⟩, ?_⟩
    · rw [c2]
      exact bv_sg_congr h2 (fun v hv => ho v (by rw [bv_vs_cons]; exact List.mem_append_left _ hv))
    · refine ih h3 (fun j hj => ?_) (fun v hv => ho v (by rw [bv_vs_cons]; exact List.mem_append_right _ hv))
      have := hc (j + 1) (by rw [List.length_cons]; omega)
      rw [show i' + 1 + j = i' + (j + 1) by omega, show i + 1 + j = i + (j + 1) by omega]
      exact this
theorem bv_at_get {a1 a2 a7 : Nat → Int32} {D : List bv_E} {i : Nat} (h : bv_at a1 a2 a7 D i) {j : Nat} (hj : j < D.length) : ∃ e ∈ D, a1 (i + j) = nI e.1 := by
  induction D generalizing i j with
  | nil => exact absurd hj (by simp)
  | cons e t ih =>
    obtain ⟨⟨h1, h2⟩, h3⟩ := h
    cases j with
    | zero => exact ⟨e, List.mem_cons_self .., h1⟩
    | succ j =>
      obtain ⟨e', he, h'⟩ := ih h3 (j := j) (by rw [List.length_cons] at hj; omega)
      refine ⟨e', List.mem_cons_of_mem _ he, ?_⟩
      rw [show i + (j + 1) = i + 1 + j by omega]
      exact h'
/-- the rows of the used slots -/
def bv_us (a3 a4 a5 a6 : Nat → Int32) (l : List bv_V) : Prop :=
  (∀ v ∈ l, a3 v.1 = 1 ∧ a4 v.1 = v.2.1 ∧ a5 v.1 = v.2.2.1 ∧ a6 v.1 = v.2.2.2) ∧ ∀ s, s < 24 → (∀ v ∈ l, v.1 ≠ s) → a3 s = 0
/-- what a directory always is -/
def bv_ok (D : List bv_E) (M : Nat) : Prop :=
  D.Pairwise (fun a b => a.1 < b.1) ∧ (∀ e ∈ D, 0 < e.1 ∧ e.1 < 2401 ∧ e.2 ≠ [] ∧ e.2.Pairwise (fun v w => w.2.1 < v.2.1)) ∧
  (bv_vs D).Pairwise (fun v w => v.1 ≠ w.1 ∧ v.2.1 ≠ w.2.1) ∧ (∀ v ∈ bv_vs D, v.1 < 24 ∧ ¬ v.2.1 < 0 ∧ v.2.1 < nI M)
/-- a state matches a directory -/
def bv_I (D : List bv_E) (M : Nat) (ke ma th : Int32) (a1 a2 a3 a4 a5 a6 a7 : Nat → Int32) : Prop :=
  bv_ok D M ∧ ke = nI D.length ∧ ma = nI M ∧ th = nI (bv_vs D).length ∧ bv_at a1 a2 a7 D 0 ∧ bv_us a3 a4 a5 a6 (bv_vs D)
theorem bv_pw_nd {l : List bv_V} (h : l.Pairwise (fun v w => v.1 ≠ w.1 ∧ v.2.1 ≠ w.2.1)) : (l.map (fun v => v.1)).Nodup :=
  List.pairwise_map.mpr (h.imp (fun z => z.1))
theorem bv_len24 {D : List bv_E} {M : Nat} (h : bv_ok D M) : (bv_vs D).length ≤ 24 := by
  obtain ⟨_, _, h3, h4⟩ := h
  have := List.Nodup.length_le_of_subset (bv_pw_nd h3) (l₂ := List.range 24) (fun x hx => by
    obtain ⟨v, hv, rfl⟩ := List.mem_map.mp hx
    exact List.mem_range.mpr (h4 v hv).1)
  rw [List.length_map, List.length_range] at this
  exact this
theorem bv_full {D : List bv_E} (h : ∀ s, s < 24 → ∃ v ∈ bv_vs D, v.1 = s) : 24 ≤ (bv_vs D).length := by
  have := List.Nodup.length_le_of_subset (l₁ := List.range 24) (l₂ := (bv_vs D).map (fun v => v.1)) List.nodup_range (fun x hx => by
    obtain ⟨v, hv, e⟩ := h x (List.mem_range.mp hx)
    exact List.mem_map.mpr ⟨v, hv, e⟩)
  rw [List.length_map, List.length_range] at this
  exact this
theorem bv_lenD {D : List bv_E} (h : ∀ e ∈ D, e.2 ≠ []) : D.length ≤ (bv_vs D).length := by
  induction D with
  | nil => exact Nat.le_refl _
  | cons e t ih =>
    have h1 := ih (fun x hx => h x (List.mem_cons_of_mem _ hx))
    have h2 : 0 < e.2.length := List.length_pos_iff.mpr (h e (List.mem_cons_self ..))
    rw [bv_vs_cons, List.length_append, List.length_cons]
    omega
theorem bv_keys24 {D : List bv_E} {M : Nat} (h : bv_ok D M) : D.length ≤ 24 :=
  Nat.le_trans (bv_lenD (fun e he => (h.2.1 e he).2.2.1)) (bv_len24 h)
theorem bv_chain24 {A B : List bv_E} {k M : Nat} {C : List bv_V} (h : bv_ok (A ++ (k, C) :: B) M) : C.length ≤ 24 := by
  have := bv_len24 h
  rw [bv_vs_app, bv_vs_cons, List.length_append, List.length_append] at this
  dsimp only at this
  omega
/-- present (1) or not (0) -/
def bv_p : List bv_V → Nat
  | [] => 0
  | v :: _ => if v.2.2.2 = 0 then 1 else 0
def bv_g : List bv_V → Int32
  | [] => 0
  | v :: _ => if v.2.2.2 = 0 then v.2.2.1 else 0
/-- the number of the version at place i -/
def bv_va : List bv_V → Nat → Int32
  | [], _ => -7
  | v :: _, 0 => v.2.1
  | _ :: t, i + 1 => bv_va t i
/-- the chain of a key; none: [] -/
def bv_lk (k : Nat) : List bv_E → List bv_V
  | [] => []
  | e :: t => if e.1 = k then e.2 else bv_lk k t
/-- how many keys are present -/
def bv_ct : List bv_E → Nat
  | [] => 0
  | e :: t => bv_p e.2 + bv_ct t
theorem bv_p_le (C : List bv_V) : bv_p C ≤ 1 := by
  cases C with
  | nil => exact Nat.zero_le _
  | cons v t =>
    show (if v.2.2.2 = 0 then 1 else 0) ≤ 1
    split <;> omega
theorem bv_ct_app (A B : List bv_E) : bv_ct (A ++ B) = bv_ct A + bv_ct B := by
  induction A with
  | nil => exact (Nat.zero_add _).symm
  | cons e t ih =>
    show bv_p e.2 + bv_ct (t ++ B) = bv_p e.2 + bv_ct t + bv_ct B
    rw [ih]
    omega
theorem bv_ct_cons (e : bv_E) (B : List bv_E) : bv_ct (e :: B) = bv_p e.2 + bv_ct B := rfl
theorem bv_ct_le (D : List bv_E) : bv_ct D ≤ D.length := by
  induction D with
  | nil => exact Nat.le_refl _
  | cons e t ih =>
    have := bv_p_le e.2
    rw [bv_ct_cons, List.length_cons]
    omega
theorem bv_lk_app {k : Nat} {A B : List bv_E} (h : ∀ e ∈ A, e.1 ≠ k) : bv_lk k (A ++ B) = bv_lk k B := by
  induction A with
  | nil => rfl
  | cons e t ih =>
    show (if e.1 = k then e.2 else bv_lk k (t ++ B)) = bv_lk k B
    rw [if_neg (h e (List.mem_cons_self ..))]
    exact ih (fun x hx => h x (List.mem_cons_of_mem _ hx))
theorem bv_lk_none {k : Nat} {B : List bv_E} (h : ∀ e ∈ B, e.1 ≠ k) : bv_lk k B = [] := by
  have := bv_lk_app (B := []) h
  rw [List.append_nil] at this
  exact this
theorem bv_lk_hit {k : Nat} {C : List bv_V} {A B : List bv_E} (h : ∀ e ∈ A, e.1 ≠ k) : bv_lk k (A ++ (k, C) :: B) = C := by
  rw [bv_lk_app h]
  exact if_pos rfl
/-- the three parts of a sorted directory -/
theorem bv_split (k : Nat) {D : List bv_E} (h : D.Pairwise (fun a b => a.1 < b.1)) : ∃ A B, (∀ e ∈ A, e.1 < k) ∧ (∀ e ∈ B, k < e.1) ∧ (D = A ++ B ∨ ∃ C, D = A ++ (k, C) :: B) := by
  induction D with
  | nil => exact ⟨[], [], by simp, by simp, Or.inl rfl⟩
  | cons e t ih =>
    obtain ⟨h1, h2⟩ := List.pairwise_cons.mp h
    rcases Nat.lt_trichotomy e.1 k with z | z | z
    · obtain ⟨A, B, hA, hB, hD⟩ := ih h2
      refine ⟨e :: A, B, ?_, hB, ?_⟩
      · intro x hx
        rcases List.mem_cons.mp hx with y | y
        · rw [y]
          exact z
        · exact hA x y
      · rcases hD with y | ⟨C, y⟩
        · exact Or.inl (by rw [y]; rfl)
        · exact Or.inr ⟨C, by rw [y]; rfl⟩
    · refine ⟨[], t, by simp, fun x hx => by rw [← z]; exact h1 x hx, Or.inr ⟨e.2, ?_⟩⟩
      rw [← z]
      rfl
    · refine ⟨[], e :: t, by simp, ?_, Or.inl rfl⟩
      intro x hx
      rcases List.mem_cons.mp hx with y | y
      · rw [y]
        exact z
      · exact Nat.lt_trans z (h1 x y)
theorem bv_sorted_mid {A B : List bv_E} {e : bv_E} (h : (A ++ e :: B).Pairwise (fun a b => a.1 < b.1)) : (∀ x ∈ A, x.1 < e.1) ∧ (∀ x ∈ B, e.1 < x.1) := by
  obtain ⟨_, h2, h3⟩ := List.pairwise_append.mp h
  exact ⟨fun x hx => h3 x hx e (List.mem_cons_self ..), (List.pairwise_cons.mp h2).1⟩
end
section
/-- a directory with the chain C at k; [] is no row -/
def bv_put (A : List bv_E) (k : Nat) (C : List bv_V) (B : List bv_E) : List bv_E := match C with
  | [] => A ++ B
  | v :: t => A ++ (k, v :: t) :: B
theorem bv_put_ne {A B : List bv_E} {k : Nat} {C : List bv_V} (h : C ≠ []) : bv_put A k C B = A ++ (k, C) :: B := by
  cases C with
  | nil => exact absurd rfl h
  | cons v t => rfl
theorem bv_vs_put (A B : List bv_E) (k : Nat) (C : List bv_V) : bv_vs (bv_put A k C B) = bv_vs A ++ (C ++ bv_vs B) := by
  cases C with
  | nil => exact bv_vs_app A B
  | cons v t => exact bv_vs_app A _
theorem bv_lk_put {A B : List bv_E} {k : Nat} (C : List bv_V) (hA : ∀ e ∈ A, e.1 < k) (hB : ∀ e ∈ B, k < e.1) : bv_lk k (bv_put A k C B) = C := by
  have hA' : ∀ e ∈ A, e.1 ≠ k := fun e he => by have := hA e he; omega
  have hB' : ∀ e ∈ B, e.1 ≠ k := fun e he => by have := hB e he; omega
  cases C with
  | nil =>
    show bv_lk k (A ++ B) = []
    rw [bv_lk_app hA', bv_lk_none hB']
  | cons v t => exact bv_lk_hit hA'
theorem bv_ct_put (A B : List bv_E) (k : Nat) (C : List bv_V) : bv_ct (bv_put A k C B) = bv_ct A + bv_p C + bv_ct B := by
  cases C with
  | nil =>
    show bv_ct (A ++ B) = bv_ct A + 0 + bv_ct B
    rw [bv_ct_app]
    omega
  | cons v t =>
    show bv_ct (A ++ (k, v :: t) :: B) = _
    rw [bv_ct_app, bv_ct_cons]
    dsimp only
    omega
theorem bv_put_mem {A B : List bv_E} {k : Nat} {C : List bv_V} {e : bv_E} (h : e ∈ bv_put A k C B) : e ∈ A ∨ e ∈ B ∨ (e = (k, C) ∧ C ≠ []) := by
  cases C with
  | nil =>
    rcases List.mem_append.mp (show e ∈ A ++ B from h) with y | y
    · exact Or.inl y
    · exact Or.inr (Or.inl y)
  | cons v t =>
    rcases List.mem_append.mp (show e ∈ A ++ (k, v :: t) :: B from h) with y | y
    · exact Or.inl y
    · rcases List.mem_cons.mp y with z | z
      · exact Or.inr (Or.inr ⟨z, by simp⟩)
      · exact Or.inr (Or.inl z)
theorem bv_mem_put {A B : List bv_E} {k : Nat} {C : List bv_V} {e : bv_E} (h : e ∈ A ∨ e ∈ B) : e ∈ bv_put A k C B := by
  cases C with
  | nil => exact List.mem_append.mpr h
  | cons v t =>
    refine List.mem_append.mpr ?_
    rcases h with y | y
    · exact Or.inl y
    · exact Or.inr (List.mem_cons_of_mem _ y)
/-- the directory around a key -/
theorem bv_around (k : Nat) {D : List bv_E} {M : Nat} (h : bv_ok D M) : ∃ A B, (∀ e ∈ A, e.1 < k) ∧ (∀ e ∈ B, k < e.1) ∧ D = bv_put A k (bv_lk k D) B := by
  obtain ⟨A, B, hA, hB, hD⟩ := bv_split k h.1
  refine ⟨A, B, hA, hB, ?_⟩
  rcases hD with y | ⟨C, y⟩
  · have e : D = bv_put A k [] B := y
    have e2 : bv_lk k D = [] := by rw [e]; exact bv_lk_put [] hA hB
    rw [e2]
    exact e
  · have hC : C ≠ [] := (h.2.1 (k, C) (by rw [y]; simp)).2.2.1
    have e : D = bv_put A k C B := by rw [bv_put_ne hC]; exact y
    have e2 : bv_lk k D = C := by rw [e]; exact bv_lk_put C hA hB
    rw [e2]
    exact e
theorem bv_put_sorted {A B : List bv_E} {k : Nat} {C : List bv_V} (h : (bv_put A k C B).Pairwise (fun a b => a.1 < b.1)) : A.Pairwise (fun a b => a.1 < b.1) ∧ B.Pairwise (fun a b => a.1 < b.1) := by
  cases C with
  | nil =>
    obtain ⟨h1, h2, _⟩ := List.pairwise_append.mp (show (A ++ B).Pairwise _ from h)
    exact ⟨h1, h2⟩
  | cons v t =>
    obtain ⟨h1, h2, _⟩ := List.pairwise_append.mp (show (A ++ (k, v :: t) :: B).Pairwise _ from h)
    exact ⟨h1, (List.pairwise_cons.mp h2).2⟩
theorem bv_sorted_put {A B : List bv_E} {k : Nat} (C : List bv_V) (h1 : A.Pairwise (fun a b => a.1 < b.1)) (h2 : B.Pairwise (fun a b => a.1 < b.1)) (hA : ∀ e ∈ A, e.1 < k) (hB : ∀ e ∈ B, k < e.1) : (bv_put A k C B).Pairwise (fun a b => a.1 < b.1) := by
  cases C with
  | nil =>
    show (A ++ B).Pairwise _
    exact List.pairwise_append.mpr ⟨h1, h2, fun a ha b hb => Nat.lt_trans (hA a ha) (hB b hb)⟩
  | cons v t =>
    show (A ++ (k, v :: t) :: B).Pairwise _
    refine List.pairwise_append.mpr ⟨h1, List.pairwise_cons.mpr ⟨hB, h2⟩, fun a ha b hb => ?_⟩
    rcases List.mem_cons.mp hb with z | z
    · rw [z]
      exact hA a ha
    · exact Nat.lt_trans (hA a ha) (hB b z)
/-- a chain with fewer versions -/
theorem bv_ok_sub {A B : List bv_E} {k M : Nat} {C C' : List bv_V} (h : bv_ok (A ++ (k, C) :: B) M) (hs : C'.Sublist C) : bv_ok (bv_put A k C' B) M := by
  obtain ⟨h1, h2, h3, h4⟩ := h
  obtain ⟨hA, hB⟩ := bv_sorted_mid h1
  obtain ⟨s1, s2, _⟩ := List.pairwise_append.mp h1
  have hv : (bv_vs (bv_put A k C' B)).Sublist (bv_vs (A ++ (k, C) :: B)) := by
    rw [bv_vs_put, bv_vs_app, bv_vs_cons]
    exact List.Sublist.append (List.Sublist.refl _) (List.Sublist.append hs (List.Sublist.refl _))
  refine ⟨bv_sorted_put C' s1 (List.pairwise_cons.mp s2).2 hA hB, ?_, List.Pairwise.sublist hv h3, fun v z => h4 v (hv.subset z)⟩
  intro e he
  rcases bv_put_mem he with y | y | ⟨y, z⟩
  · exact h2 e (List.mem_append_left _ y)
  · exact h2 e (List.mem_append_right _ (List.mem_cons_of_mem _ y))
  · obtain ⟨q1, q2, q3, q4⟩ := h2 (k, C) (by simp)
    rw [y]
    exact ⟨q1, q2, z, List.Pairwise.sublist hs q4⟩
/-- a new version in front -/
theorem bv_ok_add {A B : List bv_E} {k M s : Nat} {C : List bv_V} {c m : Int32} (h : bv_ok (bv_put A k C B) M) (hA : ∀ e ∈ A, e.1 < k) (hB : ∀ e ∈ B, k < e.1) (hk0 : 0 < k) (hk : k < 2401) (hs : s < 24) (hf : ∀ v ∈ bv_vs (bv_put A k C B), v.1 ≠ s) (hM : M < 1000) : bv_ok (A ++ (k, (s, nI M, c, m) :: C) :: B) (M + 1) := by
  obtain ⟨h1, h2, h3, h4⟩ := h
  obtain ⟨s1, s2⟩ := bv_put_sorted h1
  have hMM : nI M < nI (M + 1) := nI_lt (by omega) (by omega)
  have h0 : ¬ nI M < 0 := nI_pos (by omega)
  rw [bv_vs_put] at h3 h4 hf
  have hC : ∀ v ∈ C, v.2.1 < nI M := fun v hv => (h4 v (List.mem_append_right _ (List.mem_append_left _ hv))).2.2
  refine ⟨bv_sorted_put ((s, nI M, c, m) :: C) s1 s2 hA hB, ?_, ?_, ?_⟩
  · intro e he
    rcases bv_put_mem (C := (s, nI M, c, m) :: C) he with y | y | ⟨y, z⟩
    · exact h2 e (bv_mem_put (Or.inl y))
    · exact h2 e (bv_mem_put (Or.inr y))
    · rw [y]
      refine ⟨hk0, hk, z, List.pairwise_cons.mpr ⟨fun v hv => hC v hv, ?_⟩⟩
      cases C with
      | nil => exact List.Pairwise.nil
      | cons v t => exact (h2 (k, v :: t) (show (k, v :: t) ∈ A ++ (k, v :: t) :: B by simp)).2.2.2
  · have hp : ((s, nI M, c, m) :: (bv_vs A ++ (C ++ bv_vs B))).Pairwise (fun v w => v.1 ≠ w.1 ∧ v.2.1 ≠ w.2.1) := by
      refine List.pairwise_cons.mpr ⟨fun v hv => ⟨fun z => hf v hv z.symm, fun z => ?_⟩, h3⟩
      exact Int32.ne_of_lt (h4 v hv).2.2 z.symm
    rw [bv_vs_app, bv_vs_cons]
    show (bv_vs A ++ (s, nI M, c, m) :: (C ++ bv_vs B)).Pairwise _
    exact List.Perm.pairwise List.perm_middle.symm hp (fun z => ⟨fun y => z.1 y.symm, fun y => z.2 y.symm⟩)
  · intro v hv
    rw [bv_vs_app, bv_vs_cons] at hv
    have hv' : v = (s, nI M, c, m) ∨ v ∈ bv_vs A ++ (C ++ bv_vs B) := by
      rcases List.mem_append.mp hv with y | y
      · exact Or.inr (List.mem_append_left _ y)
      · rcases List.mem_append.mp y with z | z
        · rcases List.mem_cons.mp z with w | w
          · exact Or.inl w
          · exact Or.inr (List.mem_append_right _ (List.mem_append_left _ w))
        · exact Or.inr (List.mem_append_right _ (List.mem_append_right _ z))
    rcases hv' with y | y
    · rw [y]
      exact ⟨hs, h0, hMM⟩
    · obtain ⟨q1, q2, q3⟩ := h4 v y
      exact ⟨q1, q2, Int32.lt_trans q3 hMM⟩
theorem bv_ok_mono {D : List bv_E} {M M' : Nat} (h : bv_ok D M) (hm : M ≤ M') (hM : M' < 1000) : bv_ok D M' := by
  obtain ⟨h1, h2, h3, h4⟩ := h
  exact ⟨h1, h2, h3, fun v hv => ⟨(h4 v hv).1, (h4 v hv).2.1, Int32.lt_of_lt_of_le (h4 v hv).2.2 (nI_le hm (by omega))⟩⟩
end
section
section
variable {ty bu ke ma th : Int32} {a1 a2 a3 a4 a5 a6 a7 a8 a9 a10 : Nat → Int32} {D : List bv_E} {M : Nat}
theorem bv_seek {post : Int32 → Prop} {k N j : Nat} (hN : N ≤ 24) (hj : j ≤ N) (h1 : ∀ i, i < j → ¬ nI k ≤ a1 i) (h2 : ∀ i, j ≤ i → i < N → nI k ≤ a1 i) (hp : post (nI j)) : wpX_seek post (ty, bu, nI N, ma, th, a1, a2, a3, a4, a5, a6, a7, a8, a9, a10) (nI k) := by
  have key : ∀ n lo hi, lo ≤ j → j ≤ hi → hi ≤ N → hi - lo < n → wX_seek_7 post (nI k) ty bu (nI N) ma th a1 a2 a3 a4 a5 a6 a7 a8 a9 a10 n (nI lo) (nI hi) := by
    intro n
    induction n with
    | zero => intro lo hi _ _ _ h; exact absurd h (by omega)
    | succ n ih =>
      intro lo hi q1 q2 q3 q4
      refine pk_le hi lo (fun z => ?_) (fun z => ⟨by decide, ?_⟩)
      · rw [show lo = j by omega]
        exact hp
      · intro x ex
        have em : x = nI ((lo + hi) / 2) := by
          rw [ex, nI_add]
          exact pk_div (d := 2) (by omega) (by omega) (by omega)
        clear ex
        subst em
        have m1 : lo ≤ (lo + hi) / 2 := by omega
        have m2 : (lo + hi) / 2 < hi := by omega
        refine ⟨pk_in ((lo + hi) / 2) 24 (by omega), ?_⟩
        rw [nI_clamp (by omega)]
        generalize (lo + hi) / 2 = m at m1 m2
        refine br_c (fun g => ih lo m q1 ?_ (by omega) (by omega)) (fun g => ?_)
        · rcases Nat.lt_or_ge m j with y | y
          · exact absurd g (h1 m y)
          · exact y
        · intro x ex
          rw [nI_1] at ex
          subst ex
          refine ih (m + 1) hi ?_ q2 q3 (by omega)
          rcases Nat.lt_or_ge m j with y | y
          · exact y
          · exact absurd (h2 m y (by omega)) g
  exact ⟨N + 1, key (N + 1) 0 N (by omega) hj (by omega) (by omega)⟩
theorem bv_seekD {post : Int32 → Prop} {A B : List bv_E} {k : Nat} {x : Int32} (hx : x = nI k) (hk : k < 2 ^ 31) (hke : ke = nI (A ++ B).length) (hl : (A ++ B).length ≤ 24) (hat : bv_at a1 a2 a7 (A ++ B) 0) (hb : ∀ e ∈ A ++ B, e.1 < 2401) (hA : ∀ e ∈ A, e.1 < k) (hB : ∀ e ∈ B, k ≤ e.1) (hp : post (nI A.length)) : wpX_seek post (ty, bu, ke, ma, th, a1, a2, a3, a4, a5, a6, a7, a8, a9, a10) x := by
  subst hx hke
  have hat' := bv_at_app.mp hat
  refine bv_seek (j := A.length) hl (by rw [List.length_append]; omega) (fun i hi => ?_) (fun i h1 h2 => ?_) hp
  · obtain ⟨e, he, h⟩ := bv_at_get hat'.1 hi
    rw [Nat.zero_add] at h
    rw [h]
    exact nI_ge (hA e he) hk
  · rw [List.length_append] at h2
    obtain ⟨e, he, h⟩ := bv_at_get hat'.2 (j := i - A.length) (by omega)
    rw [show 0 + A.length + (i - A.length) = i by omega] at h
    rw [h]
    have := hb e (List.mem_append_right _ he)
    exact nI_le (hB e he) (by omega)
/-- the row of a key in the middle -/
theorem bv_mid {A B : List bv_E} {k : Nat} {v : bv_V} {t : List bv_V} (h : bv_I (A ++ (k, v :: t) :: B) M ke ma th a1 a2 a3 a4 a5 a6 a7) : A.length < 24 ∧ a1 A.length = nI k ∧ a2 A.length = nI v.1 ∧ v.1 < 24 ∧ a3 v.1 = 1 ∧ a4 v.1 = v.2.1 ∧ a5 v.1 = v.2.2.1 ∧ a6 v.1 = v.2.2.2 ∧ bv_sg a7 t (a7 v.1) (-1) := by
  obtain ⟨hok, _, _, _, hat, hus⟩ := h
  have hl := bv_keys24 hok
  rw [List.length_append, List.length_cons] at hl
  have h2 := (bv_at_app.mp hat).2
  rw [Nat.zero_add] at h2
  obtain ⟨⟨e1, e2, e3⟩, _⟩ := h2
  have hv : v ∈ bv_vs (A ++ (k, v :: t) :: B) := bv_vs_mem.mpr ⟨(k, v :: t), by simp, by simp⟩
  obtain ⟨u1, u2, u3, u4⟩ := hus.1 v hv
  exact ⟨by omega, e1, e2, (hok.2.2.2 v hv).1, u1, u2, u3, u4, e3⟩
theorem bv_place {post : Int32 → Prop} {A B : List bv_E} {k : Nat} {C : List bv_V} {x : Int32} (hI : bv_I (bv_put A k C B) M ke ma th a1 a2 a3 a4 a5 a6 a7) (hA : ∀ e ∈ A, e.1 < k) (hB : ∀ e ∈ B, k < e.1) (hx : x = nI k) (hk : k < 2401) (h0 : C = [] → post (-1)) (h1 : C ≠ [] → post (nI A.length)) : wpX_placeOf post (ty, bu, ke, ma, th, a1, a2, a3, a4, a5, a6, a7, a8, a9, a10) x := by
  have hkeep := hI
  obtain ⟨hok, hke, _, _, hat, _⟩ := hI
  have hl := bv_keys24 hok
  have hb : ∀ e ∈ bv_put A k C B, e.1 < 2401 := fun e he => (hok.2.1 e he).2.1
  unfold wpX_placeOf
  cases C with
  | nil =>
    have hl' : (A ++ B).length ≤ 24 := hl
    refine bv_seekD (A := A) (B := B) hx (by omega) hke hl hat hb hA (fun e he => by have := hB e he; omega) ?_
    have hke' : ke = nI (A ++ B).length := hke
    have hat' : bv_at a1 a2 a7 (A ++ B) 0 := hat
    subst hke' hx
    cases B with
    | nil => exact pk_le _ _ (fun _ => h0 rfl) (fun z => absurd z (by simp)) rfl rfl (by omega) (by simp at hl'; omega)
    | cons b B' =>
      rw [List.length_append, List.length_cons] at hl'
      have h2 := (bv_at_app.mp hat').2
      rw [Nat.zero_add] at h2
      refine br_f (nI_ge (by rw [List.length_append, List.length_cons]; omega) (by rw [List.length_append, List.length_cons]; omega)) ⟨pk_in A.length 24 (by omega), ?_⟩
      rw [nI_clamp (by omega), h2.1.1]
      have hbk := hB b (List.mem_cons_self ..)
      have hb2 : b.1 < 2401 := hb b (show b ∈ A ++ b :: B' by simp)
      exact br_f (fun z => by rw [nI_eq (by omega) (by omega)] at z; omega) (h0 rfl)
  | cons v t =>
    have hl' : (A ++ (k, v :: t) :: B).length ≤ 24 := hl
    have hke' : ke = nI (A ++ (k, v :: t) :: B).length := hke
    refine bv_seekD (A := A) (B := (k, v :: t) :: B) hx (by omega) hke hl hat hb hA (fun e he => ?_) ?_
    · rcases List.mem_cons.mp he with y | y
      · rw [y]
        exact Nat.le_refl _
      · exact Nat.le_of_lt (hB e y)
    · obtain ⟨m1, m2, _⟩ := bv_mid (show bv_I (A ++ (k, v :: t) :: B) M ke ma th a1 a2 a3 a4 a5 a6 a7 from hkeep)
      rw [hke', hx]
      rw [List.length_append, List.length_cons] at hl'
      refine br_f (nI_ge (by rw [List.length_append, List.length_cons]; omega) (by rw [List.length_append, List.length_cons]; omega)) ⟨pk_in A.length 24 (by omega), ?_⟩
      rw [nI_clamp (by omega), m2]
      exact br_t rfl (h1 (by simp))
theorem bv_isPresent {post : Int32 → Prop} {A B : List bv_E} {k : Nat} {v : bv_V} {t : List bv_V} (hI : bv_I (A ++ (k, v :: t) :: B) M ke ma th a1 a2 a3 a4 a5 a6 a7) (hp : post (nI (bv_p (v :: t)))) : wpX_isPresent post (ty, bu, ke, ma, th, a1, a2, a3, a4, a5, a6, a7, a8, a9, a10) (nI A.length) := by
  obtain ⟨m1, m2, m3, m4, _, _, _, m8, _⟩ := bv_mid hI
  unfold wpX_isPresent
  refine br_f (nI_pos (by omega)) ⟨pk_in _ 24 m1, ?_⟩
  rw [nI_clamp (by omega), m3, nI_clamp (by omega), m8]
  refine ⟨pk_in _ 24 m4, br_c (fun z => ?_) (fun z => ?_)⟩
  · have e : bv_p (v :: t) = 1 := if_pos z
    rw [e] at hp
    exact hp
  · have e : bv_p (v :: t) = 0 := if_neg z
    rw [e] at hp
    exact hp
theorem bv_nb (C : List bv_V) : narrow .boolean (.int (nI (bv_p C))) = .int (nI (bv_p C)) := by
  have := bv_p_le C
  rcases (show bv_p C = 0 ∨ bv_p C = 1 by omega) with y | y
  · rw [y]
    rfl
  · rw [y]
    rfl
theorem bv_present {post : Int32 → Prop} {k : Nat} (hI : bv_I D M ke ma th a1 a2 a3 a4 a5 a6 a7) (hbu : bu = nI k) (hk : k < 2401) (hp : post (nI (bv_p (bv_lk k D)))) : wpX_present post (ty, bu, ke, ma, th, a1, a2, a3, a4, a5, a6, a7, a8, a9, a10) := by
  obtain ⟨A, B, hA, hB, hD⟩ := bv_around k hI.1
  generalize bv_lk k D = C at hD hp
  subst hD
  have hnb := bv_nb C
  unfold wpX_present
  refine bv_place hI hA hB hbu hk (fun e => ?_) (fun e => ?_)
  · subst e
    unfold wpX_isPresent
    exact br_t (by decide) ⟨rfl, hp⟩
  · cases C with
    | nil => exact absurd rfl e
    | cons v t => exact bv_isPresent (show bv_I (A ++ (k, v :: t) :: B) M ke ma th a1 a2 a3 a4 a5 a6 a7 from hI) ⟨hnb, hp⟩
theorem bv_get {post : Int32 → Prop} {k : Nat} (hI : bv_I D M ke ma th a1 a2 a3 a4 a5 a6 a7) (hbu : bu = nI k) (hk : k < 2401) (hp : post (bv_g (bv_lk k D))) : wpX_get post (ty, bu, ke, ma, th, a1, a2, a3, a4, a5, a6, a7, a8, a9, a10) := by
  obtain ⟨A, B, hA, hB, hD⟩ := bv_around k hI.1
  generalize bv_lk k D = C at hD hp
  subst hD
  unfold wpX_get
  refine bv_place hI hA hB hbu hk (fun e => ?_) (fun e => ?_)
  · subst e
    unfold wpX_isPresent
    exact br_t (by decide) (br_t rfl hp)
  · cases C with
    | nil => exact absurd rfl e
    | cons v t =>
      have hI' : bv_I (A ++ (k, v :: t) :: B) M ke ma th a1 a2 a3 a4 a5 a6 a7 := hI
      obtain ⟨m1, m2, m3, m4, _, _, m7, m8, _⟩ := bv_mid hI'
      refine bv_isPresent hI' ?_
      rw [nI_clamp (by omega), m3, nI_clamp (by omega), m7]
      by_cases z : v.2.2.2 = 0
      · have e1 : bv_p (v :: t) = 1 := if_pos z
        have e2 : bv_g (v :: t) = v.2.2.1 := if_pos z
        rw [e2] at hp
        rw [e1]
        exact br_f (by decide) ⟨pk_in _ 24 m1, pk_in _ 24 m4, hp⟩
      · have e1 : bv_p (v :: t) = 0 := if_neg z
        have e2 : bv_g (v :: t) = 0 := if_neg z
        rw [e2] at hp
        rw [e1]
        exact br_t (by decide) hp
theorem bv_va53 {post : Int32 → Prop} {T : List bv_V} {x : Int32} (h : bv_sg a7 T x (-1)) (hT : ∀ v ∈ T, v.1 < 24 ∧ a4 v.1 = v.2.1) (hp : post (bv_va T 0)) : wX_versionAt_53 post x ty bu ke ma th a1 a2 a3 a4 a5 a6 a7 a8 a9 a10 := by
  unfold wX_versionAt_53
  cases T with
  | nil =>
    have e : x = -1 := h
    subst e
    exact br_f (by decide) hp
  | cons v t =>
    have e : x = nI v.1 := h.1
    subst e
    obtain ⟨q1, q2⟩ := hT v (List.mem_cons_self ..)
    rw [nI_clamp (by omega), q2]
    exact br_t (nI_pos' (by omega)) ⟨pk_in _ 24 q1, hp⟩
theorem bv_va30 {post : Int32 → Prop} {i : Nat} (hi : i < 1000) : ∀ (n c : Nat) (T : List bv_V) (x : Int32), bv_sg a7 T x (-1) → (∀ v ∈ T, v.1 < 24 ∧ a4 v.1 = v.2.1) → c ≤ i → i - c < n → post (bv_va T (i - c)) → wX_versionAt_30 post (nI i) ty bu ke ma th a1 a2 a3 a4 a5 a6 a7 a8 a9 a10 n x (nI c) := by
  intro n
  induction n with
  | zero => intro c T x _ _ _ h; exact absurd h (by omega)
  | succ n ih =>
    intro c T x h hT hc hn hp
    refine pk_le i c (fun z => ?_) (fun z => ?_)
    · refine bv_va53 h hT ?_
      rw [show i - c = 0 by omega] at hp
      exact hp
    · cases T with
      | nil =>
        have e : x = -1 := h
        subst e
        exact br_t (by decide) (bv_va53 (T := []) rfl hT hp)
      | cons v t =>
        have e : x = nI v.1 := h.1
        subst e
        obtain ⟨q1, q2⟩ := hT v (List.mem_cons_self ..)
        refine br_f (nI_pos (by omega)) ⟨pk_in _ 24 q1, ?_⟩
        rw [nI_clamp (by omega)]
        intro x2 e2
        subst e2
        intro x4 e4
        rw [nI_1] at e4
        subst e4
        refine ih (c + 1) t _ h.2 (fun w hw => hT w (List.mem_cons_of_mem _ hw)) (by omega) (by omega) ?_
        rw [show i - c = (i - (c + 1)) + 1 by omega] at hp
        exact hp
theorem bv_versionAt {post : Int32 → Prop} {k i : Nat} {y : Int32} (hI : bv_I D M ke ma th a1 a2 a3 a4 a5 a6 a7) (hbu : bu = nI k) (hk : k < 2401) (hy : y = nI i) (hi : i < 1000) (hp : post (bv_va (bv_lk k D) i)) : wpX_versionAt post (ty, bu, ke, ma, th, a1, a2, a3, a4, a5, a6, a7, a8, a9, a10) y := by
  obtain ⟨A, B, hA, hB, hD⟩ := bv_around k hI.1
  generalize bv_lk k D = C at hD hp
  subst hD hy
  unfold wpX_versionAt
  refine bv_place hI hA hB hbu hk (fun e => ?_) (fun e => ?_)
  · subst e
    exact br_t (by decide) hp
  · cases C with
    | nil => exact absurd rfl e
    | cons v t =>
      have hI' : bv_I (A ++ (k, v :: t) :: B) M ke ma th a1 a2 a3 a4 a5 a6 a7 := hI
      obtain ⟨m1, m2, m3, m4, _, m6, m7, m8, m9⟩ := bv_mid hI'
      refine br_f (nI_pos (by omega)) (br_t (nI_pos' (by omega)) ⟨pk_in _ 24 m1, ?_⟩)
      rw [nI_clamp (by omega)]
      intro x ex
      subst ex
      refine ⟨i + 1, bv_va30 hi (i + 1) 0 (v :: t) _ ⟨m3, m9⟩ (fun w hw => ?_) (by omega) (by omega) hp⟩
      have hw' : w ∈ bv_vs (A ++ (k, v :: t) :: B) := bv_vs_mem.mpr ⟨(k, v :: t), by simp, hw⟩
      exact ⟨(hI'.1.2.2.2 w hw').1, (hI'.2.2.2.2.2.1 w hw').2.1⟩
end
end
section
section
variable {ty bu ke ma th : Int32} {a1 a2 a3 a4 a5 a6 a7 a8 a9 a10 : Nat → Int32} {D : List bv_E} {M : Nat}
theorem bv_free {post : Int32 → Prop} (hus : bv_us a3 a4 a5 a6 (bv_vs D)) (hlt : (bv_vs D).length < 24) (hp : ∀ s, s < 24 → (∀ v ∈ bv_vs D, v.1 ≠ s) → post (nI s)) : wpX_freeVersion post (ty, bu, ke, ma, th, a1, a2, a3, a4, a5, a6, a7, a8, a9, a10) := by
  have key : ∀ n i, i ≤ 23 → 23 - i < n → (∀ s, s < i → ∃ v ∈ bv_vs D, v.1 = s) → wX_freeVersion_2 post ty bu ke ma th a1 a2 a3 a4 a5 a6 a7 a8 a9 a10 n (nI i) := by
    intro n
    induction n with
    | zero => intro i _ h; exact absurd h (by omega)
    | succ n ih =>
      intro i hi hn h
      refine pk_le 23 i (fun z => ?_) (fun z => ⟨pk_in i 24 (by omega), ?_⟩)
      · refine hp i (by omega) (fun v hv e => ?_)
        have := bv_full (D := D) (fun s hs => by
          rcases Nat.lt_or_ge s i with y | y
          · exact h s y
          · exact ⟨v, hv, by omega⟩)
        omega
      · rw [nI_clamp (by omega)]
        refine br_c (fun g => hp i (by omega) (fun v hv e => ?_)) (fun g => ?_)
        · have := (hus.1 v hv).1
          rw [e, g] at this
          exact absurd this (by decide)
        · intro x ex
          rw [nI_1] at ex
          subst ex
          refine ih (i + 1) (by omega) (by omega) (fun s hs => ?_)
          rcases Nat.lt_or_ge s i with y | y
          · exact h s y
          · have e : s = i := by omega
            subst e
            refine Classical.byContradiction (fun q => g (hus.2 s (by omega) (fun v hv e => q ⟨v, hv, e⟩)))
  exact ⟨24, key 24 0 (by omega) (by omega) (fun s hs => absurd hs (by omega))⟩
theorem bv_drop {post : St1 → Prop} {N d : Nat} (hN : N < 24) (hd : d ≤ N) (hke : ke = nI (N + 1)) (hp : ∀ b1 b2 : Nat → Int32, (∀ j, j < d → b1 j = a1 j ∧ b2 j = a2 j) → (∀ j, d ≤ j → j < N → b1 j = a1 (j + 1) ∧ b2 j = a2 (j + 1)) → post (ty, bu, nI N, ma, th, b1, b2, a3, a4, a5, a6, a7, a8, a9, a10)) : wpX_dropKey post (ty, bu, ke, ma, th, a1, a2, a3, a4, a5, a6, a7, a8, a9, a10) (nI d) := by
  have key : ∀ n i (b1 b2 : Nat → Int32), d ≤ i → i ≤ N → N - i < n → (∀ j, j < d → b1 j = a1 j ∧ b2 j = a2 j) → (∀ j, d ≤ j → j < i → b1 j = a1 (j + 1) ∧ b2 j = a2 (j + 1)) → (∀ j, i ≤ j → b1 j = a1 j ∧ b2 j = a2 j) → wX_dropKey_12 post ty bu (nI N) ma th n (nI i) b1 b2 a3 a4 a5 a6 a7 a8 a9 a10 := by
    intro n
    induction n with
    | zero => intro i b1 b2 _ _ h; exact absurd h (by omega)
    | succ n ih =>
      intro i b1 b2 q1 q2 q3 h1 h2 h3
      refine pk_le N i (fun z => hp b1 b2 h1 (fun j y1 y2 => h2 j y1 (by omega))) (fun z => ⟨pk_in (i + 1) 24 (by omega) (nI_1 i), pk_in i 24 (by omega), ?_⟩)
      rw [nI_1, nI_clamp (n := i) (by omega), nI_clamp (n := i + 1) (by omega)]
      intro c1 e1
      refine ⟨pk_in (i + 1) 24 (by omega), pk_in i 24 (by omega), ?_⟩
      intro c2 e2
      intro x ex
      subst e1 e2 ex
      refine ih (i + 1) _ _ (by omega) (by omega) (by omega) (fun j hj => ?_) (fun j y1 y2 => ?_) (fun j hj => ?_)
      · rw [pk_un (by omega), pk_un (by omega)]
        exact h1 j hj
      · by_cases e : j = i
        · subst e
          rw [pk_us, pk_us]
          exact h3 (j + 1) (by omega)
        · rw [pk_un e, pk_un e]
          exact h2 j y1 (by omega)
      · rw [pk_un (by omega), pk_un (by omega)]
        exact h3 j (by omega)
  unfold wpX_dropKey
  intro f ef
  rw [hke, nI_pred] at ef
  subst ef
  exact ⟨N - d + 1, key (N - d + 1) d a1 a2 (by omega) hd (by omega) (fun j _ => ⟨rfl, rfl⟩) (fun j y1 y2 => absurd y2 (by omega)) (fun j _ => ⟨rfl, rfl⟩)⟩
theorem bv_shift {post : Int32 → St1 → Prop} {x1 : Int32} {s d N : Nat} (hN : N < 24) (hd : d ≤ N) (hs : s < 24) (hke : ke = nI N) (hp : ∀ b1 b2 : Nat → Int32, (∀ j, j < d → b1 j = a1 j ∧ b2 j = a2 j) → b1 d = x1 → b2 d = nI s → (∀ j, d < j → j ≤ N → b1 j = a1 (j - 1) ∧ b2 j = a2 (j - 1)) → post (a4 s) (ty, bu, nI (N + 1), ma, th, b1, b2, a3, a4, a5, a6, upd a7 s (-1), a8, a9, a10)) : ∃ n, wX_addVersion_111 post x1 (nI s) (nI d) ty bu ke ma th n ke a1 a2 a3 a4 a5 a6 a7 a8 a9 a10 := by
  have key : ∀ n i (b1 b2 : Nat → Int32), d ≤ i → i ≤ N → i - d < n → (∀ j, j ≤ i → b1 j = a1 j ∧ b2 j = a2 j) → (∀ j, i < j → j ≤ N → b1 j = a1 (j - 1) ∧ b2 j = a2 (j - 1)) → wX_addVersion_111 post x1 (nI s) (nI d) ty bu (nI N) ma th n (nI i) b1 b2 a3 a4 a5 a6 a7 a8 a9 a10 := by
    intro n
    induction n with
    | zero => intro i b1 b2 _ _ h; exact absurd h (by omega)
    | succ n ih =>
      intro i b1 b2 q1 q2 q3 h1 h2
      refine pk_le i d (fun z => ⟨pk_in d 24 (by omega), ?_⟩) (fun z => ?_)
      · rw [nI_clamp (n := d) (by omega), nI_clamp (n := s) (by omega)]
        intro c1 e1
        intro f ef
        rw [nI_1] at ef
        refine ⟨pk_in s 24 hs, ?_⟩
        intro c7 e7
        subst e1 ef e7
        unfold wX_addVersion_182
        refine ⟨pk_in d 24 (by omega), ?_⟩
        rw [nI_clamp (n := d) (by omega), nI_clamp (n := s) (by omega)]
        intro c2 e2
        subst e2
        refine ⟨pk_in s 24 hs, hp _ _ (fun j hj => ?_) pk_us pk_us (fun j y1 y2 => ?_)⟩
        · rw [pk_un (by omega), pk_un (by omega)]
          exact h1 j (by omega)
        · rw [pk_un (by omega), pk_un (by omega)]
          exact h2 j (by omega) y2
      · obtain ⟨m, rfl⟩ : ∃ m, i = m + 1 := ⟨i - 1, by omega⟩
        rw [nI_pred, nI_clamp (n := m + 1) (by omega), nI_clamp (n := m) (by omega), pk_m1]
        refine ⟨pk_in m 24 (by omega), pk_in (m + 1) 24 (by omega), ?_⟩
        intro c1 e1
        refine ⟨pk_in m 24 (by omega), pk_in (m + 1) 24 (by omega), ?_⟩
        intro c2 e2
        intro x ex
        subst e1 e2 ex
        refine ih m _ _ (by omega) (by omega) (by omega) (fun j hj => ?_) (fun j y1 y2 => ?_)
        · rw [pk_un (by omega), pk_un (by omega)]
          exact h1 j (by omega)
        · by_cases e : j = m + 1
          · subst e
            rw [pk_us, pk_us]
            exact h1 m (by omega)
          · rw [pk_un e, pk_un e]
            exact h2 j (by omega) y2
  subst hke
  exact ⟨N - d + 1, key (N - d + 1) N a1 a2 hd (by omega) (by omega) (fun j _ => ⟨rfl, rfl⟩) (fun j y1 y2 => absurd y2 (by omega))⟩
theorem bv_us_add {l l' : List bv_V} {s : Nat} {n c m : Int32} (h : bv_us a3 a4 a5 a6 l) (hf : ∀ v ∈ l, v.1 ≠ s) (hm : ∀ v, v ∈ l' ↔ v = (s, n, c, m) ∨ v ∈ l) : bv_us (upd a3 s 1) (upd a4 s n) (upd a5 s c) (upd a6 s m) l' := by
  refine ⟨fun v hv => ?_, fun t ht hn => ?_⟩
  · rcases (hm v).mp hv with y | y
    · subst y
      exact ⟨pk_us, pk_us, pk_us, pk_us⟩
    · have := hf v y
      rw [pk_un this, pk_un this, pk_un this, pk_un this]
      exact h.1 v y
  · have e : t ≠ s := fun e => hn (s, n, c, m) ((hm _).mpr (Or.inl rfl)) e.symm
    rw [pk_un e]
    exact h.2 t ht (fun v hv => hn v ((hm v).mpr (Or.inr hv)))
theorem bv_addVersion {post : Int32 → St1 → Prop} {k : Nat} {c m x : Int32} {A B : List bv_E} {C : List bv_V} (hI : bv_I (bv_put A k C B) M ke ma th a1 a2 a3 a4 a5 a6 a7) (hA : ∀ e ∈ A, e.1 < k) (hB : ∀ e ∈ B, k < e.1) (hk0 : 0 < k) (hk : k < 2401) (hM : M < 1000) (hm : vp_nar .boolean m = m) (hlt : (bv_vs (bv_put A k C B)).length < 24) (hx : x = nI k)
    (hp : ∀ (s : Nat) (ke' ma' th' : Int32) (a1' a2' a3' a4' a5' a6' a7' : Nat → Int32), bv_I (A ++ (k, (s, nI M, c, m) :: C) :: B) (M + 1) ke' ma' th' a1' a2' a3' a4' a5' a6' a7' → post (nI M) (ty, bu, ke', ma', th', a1', a2', a3', a4', a5', a6', a7', a8, a9, a10)) : wpX_addVersion post (ty, bu, ke, ma, th, a1, a2, a3, a4, a5, a6, a7, a8, a9, a10) x c m := by
  obtain ⟨hok, hke, hma, hth, hat, hus⟩ := hI
  have hb : ∀ e ∈ bv_put A k C B, e.1 < 2401 := fun e he => (hok.2.1 e he).2.1
  have hlD : (bv_put A k C B).length < 24 := Nat.lt_of_le_of_lt (bv_lenD (fun e he => (hok.2.1 e he).2.2.1)) hlt
  unfold wpX_addVersion
  refine bv_free hus hlt (fun s hs hf => ?_)
  have hok' : bv_ok (A ++ (k, (s, nI M, c, m) :: C) :: B) (M + 1) := bv_ok_add hok hA hB hk0 hk hs hf hM
  rw [nI_clamp (by omega)]
  refine ⟨pk_in s 24 hs, ?_⟩
  intro b3 e3
  refine ⟨pk_in s 24 hs, ?_⟩
  intro b4 e4
  refine ⟨pk_in s 24 hs, ?_⟩
  intro b5 e5
  refine ⟨pk_in s 24 hs, ?_⟩
  intro b6 e6
  rw [hm] at e6
  intro f1 ef1
  rw [hma, nI_1] at ef1
  intro f2 ef2
  rw [hth, nI_1] at ef2
  rw [hma] at e4
  have hmem : ∀ v, v ∈ bv_vs (A ++ (k, (s, nI M, c, m) :: C) :: B) ↔ v = (s, nI M, c, m) ∨ v ∈ bv_vs (bv_put A k C B) := by
    intro v
    rw [bv_vs_put, bv_vs_app, bv_vs_cons]
    exact (List.perm_middle (a := (s, nI M, c, m)) (l₁ := bv_vs A) (l₂ := C ++ bv_vs B)).mem_iff.trans List.mem_cons
  have hlen : (bv_vs (A ++ (k, (s, nI M, c, m) :: C) :: B)).length = (bv_vs (bv_put A k C B)).length + 1 := by
    rw [bv_vs_put, bv_vs_app, bv_vs_cons]
    simp only [List.length_append, List.length_cons]
    omega
  have hus' : bv_us b3 b4 b5 b6 (bv_vs (A ++ (k, (s, nI M, c, m) :: C) :: B)) := by
    subst e3 e4 e5 e6
    exact bv_us_add hus hf hmem
  have hv4 : b4 s = nI M := by rw [e4, pk_us]
  have hfA : ∀ v ∈ bv_vs A, v.1 ≠ s := fun v hv => hf v (by rw [bv_vs_put]; exact List.mem_append_left _ hv)
  have hfC : ∀ v ∈ C, v.1 ≠ s := fun v hv => hf v (by rw [bv_vs_put]; exact List.mem_append_right _ (List.mem_append_left _ hv))
  have hfB : ∀ v ∈ bv_vs B, v.1 ≠ s := fun v hv => hf v (by rw [bv_vs_put]; exact List.mem_append_right _ (List.mem_append_right _ hv))
  cases C with
  | nil =>
    have hat' : bv_at a1 a2 a7 (A ++ B) 0 := hat
    obtain ⟨hat1, hat2⟩ := bv_at_app.mp hat'
    rw [Nat.zero_add] at hat2
    have hlD' : (A ++ B).length < 24 := hlD
    have hke' : ke = nI (A ++ B).length := hke
    have hAB : (A ++ B).length = A.length + B.length := List.length_append
    refine bv_seekD (A := A) (B := B) hx (by omega) hke' (by omega) hat' hb hA (fun e he => by have := hB e he; omega) ?_
    have sh : ∃ n, wX_addVersion_111 post x (nI s) (nI A.length) ty bu ke f1 f2 n ke a1 a2 b3 b4 b5 b6 a7 a8 a9 a10 := by
      refine bv_shift (N := (A ++ B).length) hlD' (by omega) hs hke' (fun b1 b2 g1 g2 g3 g4 => ?_)
      rw [hv4]
      refine hp s _ _ _ _ _ _ _ _ _ _ ⟨hok', ?_, ef1, ?_, ?_, hus'⟩
      · rw [List.length_append, List.length_append, List.length_cons]
        rfl
      · rw [ef2, hlen]
      · refine bv_at_app.mpr ⟨bv_at_congr hat1 (fun j hj => ?_) (fun v hv => pk_un (hfA v hv)), ⟨⟨?_, ?_, ?_⟩, ?_⟩⟩
        · rw [Nat.zero_add]
          exact g1 j hj
        · rw [Nat.zero_add, g2, hx]
        · rw [Nat.zero_add]
          exact g3
        · exact pk_us
        · rw [Nat.zero_add]
          refine bv_at_congr hat2 (fun j hj => ?_) (fun v hv => pk_un (hfB v hv))
          have := g4 (A.length + 1 + j) (by omega) (by omega)
          rw [show A.length + 1 + j - 1 = A.length + j by omega] at this
          exact this
    refine br_c (fun _ => sh) (fun z => ⟨pk_in A.length 24 (by omega), br_f ?_ sh⟩)
    cases B with
    | nil => exact absurd (show ke ≤ nI A.length by rw [hke', List.append_nil]; exact nI_le (Nat.le_refl _) (by omega)) z
    | cons b B' =>
      rw [nI_clamp (by omega), hat2.1.1, hx]
      have hbk := hB b (List.mem_cons_self ..)
      have hb2 : b.1 < 2401 := hb b (show b ∈ A ++ b :: B' by simp)
      exact fun y => by
        rw [nI_eq (by omega) (by omega)] at y
        omega
  | cons v t =>
    have hat' : bv_at a1 a2 a7 (A ++ (k, v :: t) :: B) 0 := hat
    obtain ⟨hat1, hat2⟩ := bv_at_app.mp hat'
    rw [Nat.zero_add] at hat2
    obtain ⟨⟨q1, q2⟩, hat3⟩ := hat2
    have hlD' : (A ++ (k, v :: t) :: B).length < 24 := hlD
    have hke' : ke = nI (A ++ (k, v :: t) :: B).length := hke
    have hAB : (A ++ (k, v :: t) :: B).length = A.length + (B.length + 1) := by rw [List.length_append, List.length_cons]
    refine bv_seekD (A := A) (B := (k, v :: t) :: B) hx (by omega) hke' (by omega) hat' hb hA (fun e he => ?_) ?_
    · rcases List.mem_cons.mp he with y | y
      · rw [y]
        exact Nat.le_refl _
      · exact Nat.le_of_lt (hB e y)
    · refine br_f (by rw [hke']; exact nI_ge (by omega) (by omega)) ⟨pk_in A.length 24 (by omega), ?_⟩
      rw [nI_clamp (by omega)]
      refine br_t (by rw [q1, hx]) ⟨pk_in A.length 24 (by omega), pk_in s 24 hs, ?_⟩
      intro b7 e7
      unfold wX_addVersion_182
      refine ⟨pk_in A.length 24 (by omega), ?_⟩
      rw [nI_clamp (n := A.length) (by omega), nI_clamp (n := s) (by omega)]
      intro b2 e2
      refine ⟨pk_in s 24 hs, ?_⟩
      rw [hv4]
      subst e7 e2
      refine hp s _ _ _ _ _ _ _ _ _ _ ⟨hok', ?_, ef1, ?_, ?_, hus'⟩
      · rw [hke', hAB, List.length_append, List.length_cons]
      · rw [ef2, hlen]
      · refine bv_at_app.mpr ⟨bv_at_congr hat1 (fun j hj => ⟨rfl, pk_un (by omega)⟩) (fun w hw => pk_un (hfA w hw)), ⟨⟨?_, ?_, ?_⟩, ?_⟩⟩
        · rw [Nat.zero_add]
          exact q1
        · rw [Nat.zero_add]
          exact pk_us
        · show bv_sg _ (v :: t) (upd a7 s (a2 A.length) s) (-1)
          rw [pk_us]
          exact bv_sg_congr q2 (fun w hw => pk_un (hfC w hw))
        · rw [Nat.zero_add]
          exact bv_at_congr hat3 (fun j hj => ⟨rfl, pk_un (by omega)⟩) (fun w hw => pk_un (hfB w hw))
end
end
section
theorem bv_rest {X Y : List bv_V} {w : bv_V} (h : (X ++ w :: Y).Pairwise (fun v w => v.1 ≠ w.1 ∧ v.2.1 ≠ w.2.1)) : ∀ v ∈ X ++ Y, v.1 ≠ w.1 ∧ v.2.1 ≠ w.2.1 := by
  have h2 := List.Perm.pairwise (List.perm_middle (a := w) (l₁ := X) (l₂ := Y)) h (fun z => ⟨fun y => z.1 y.symm, fun y => z.2 y.symm⟩)
  exact fun v hv => ⟨fun e => ((List.pairwise_cons.mp h2).1 v hv).1 e.symm, fun e => ((List.pairwise_cons.mp h2).1 v hv).2 e.symm⟩
theorem bv_pw_ne {l : List bv_V} {v w : bv_V} (h : l.Pairwise (fun v w => v.1 ≠ w.1 ∧ v.2.1 ≠ w.2.1)) (hv : v ∈ l) (hw : w ∈ l) (e : v.1 ≠ w.1) : v.2.1 ≠ w.2.1 := by
  obtain ⟨X, Y, rfl⟩ := List.append_of_mem hw
  have hv' : v = w ∨ v ∈ X ++ Y := by
    rcases List.mem_append.mp hv with y | y
    · exact Or.inr (List.mem_append_left _ y)
    · rcases List.mem_cons.mp y with z | z
      · exact Or.inl z
      · exact Or.inr (List.mem_append_right _ z)
  rcases hv' with y | y
  · exact absurd (by rw [y]) e
  · exact (bv_rest h v y).2
theorem bv_vs_mid (A B : List bv_E) (k : Nat) (P Q : List bv_V) (w : bv_V) : bv_vs (A ++ (k, P ++ w :: Q) :: B) = (bv_vs A ++ P) ++ w :: (Q ++ bv_vs B) := by
  rw [bv_vs_app, bv_vs_cons]
  simp only [List.append_assoc, List.cons_append]
theorem bv_vs_mid2 (A B : List bv_E) (k : Nat) (P Q : List bv_V) : bv_vs (bv_put A k (P ++ Q) B) = (bv_vs A ++ P) ++ (Q ++ bv_vs B) := by
  rw [bv_vs_put]
  simp only [List.append_assoc]
/-- the last one of P, or -1 -/
def bv_la (P : List bv_V) (x : Int32) : Prop := (P = [] ∧ x = -1) ∨ ∃ (P' : List bv_V) (b : bv_V), P = P' ++ [b] ∧ x = nI b.1
section
variable {ty bu ke ma th : Int32} {a1 a2 a3 a4 a5 a6 a7 a8 a9 a10 : Nat → Int32} {D : List bv_E} {M : Nat}
theorem bv_us_del {X Y : List bv_V} {w : bv_V} (hpw : (X ++ w :: Y).Pairwise (fun v w => v.1 ≠ w.1 ∧ v.2.1 ≠ w.2.1)) (h : bv_us a3 a4 a5 a6 (X ++ w :: Y)) : bv_us (upd a3 w.1 0) a4 a5 a6 (X ++ Y) := by
  refine ⟨fun v hv => ?_, fun t ht hn => ?_⟩
  · rw [pk_un (bv_rest hpw v hv).1]
    refine h.1 v ?_
    rcases List.mem_append.mp hv with y | y
    · exact List.mem_append_left _ y
    · exact List.mem_append_right _ (List.mem_cons_of_mem _ y)
  · by_cases e : t = w.1
    · rw [e, pk_us]
    · rw [pk_un e]
      refine h.2 t ht (fun v hv => ?_)
      rcases List.mem_append.mp hv with y | y
      · exact hn v (List.mem_append_left _ y)
      · rcases List.mem_cons.mp y with z | z
        · rw [z]
          exact fun q => e q.symm
        · exact hn v (List.mem_append_right _ z)
theorem bv_u88 {post : Int32 → St1 → Prop} {A B : List bv_E} {k : Nat} {P Q : List bv_V} {w : bv_V} (hok : bv_ok (A ++ (k, P ++ w :: Q) :: B) M) (hke : ke = nI (A ++ (k, P ++ w :: Q) :: B).length) (hma : ma = nI M) (hth : th = nI (bv_vs (A ++ (k, P ++ w :: Q) :: B)).length) (hus : bv_us a3 a4 a5 a6 (bv_vs (A ++ (k, P ++ w :: Q) :: B)))
    (hat1 : bv_at a1 a2 a7 A 0) (q1 : a1 A.length = nI k) (q2 : bv_sg a7 (P ++ Q) (a2 A.length) (-1)) (hat3 : bv_at a1 a2 a7 B (A.length + 1))
    (hp : ∀ (ke' th' : Int32) (a1' a2' a3' : Nat → Int32), bv_I (bv_put A k (P ++ Q) B) M ke' ma th' a1' a2' a3' a4 a5 a6 a7 → post 1 (ty, bu, ke', ma, th', a1', a2', a3', a4, a5, a6, a7, a8, a9, a10)) : wX_unchain_88 post (nI A.length) (nI w.1) ty bu ke ma th a1 a2 a3 a4 a5 a6 a7 a8 a9 a10 := by
  have hok' : bv_ok (bv_put A k (P ++ Q) B) M := bv_ok_sub hok (List.Sublist.append (List.Sublist.refl _) (List.sublist_cons_self ..))
  have hl := bv_keys24 hok
  have hAB : (A ++ (k, P ++ w :: Q) :: B).length = A.length + B.length + 1 := by
    rw [List.length_append, List.length_cons]
    omega
  have hw : w.1 < 24 := (hok.2.2.2 w (by rw [bv_vs_mid]; exact List.mem_append_right _ (List.mem_cons_self ..))).1
  have hpw := hok.2.2.1
  have hlen : (bv_vs (A ++ (k, P ++ w :: Q) :: B)).length = (bv_vs (bv_put A k (P ++ Q) B)).length + 1 := by
    rw [bv_vs_mid, bv_vs_mid2]
    simp only [List.length_append, List.length_cons]
    omega
  have hus' : bv_us (upd a3 w.1 0) a4 a5 a6 (bv_vs (bv_put A k (P ++ Q) B)) := by
    rw [bv_vs_mid] at hpw hus
    rw [bv_vs_mid2]
    exact bv_us_del hpw hus
  unfold wX_unchain_88
  refine ⟨pk_in w.1 24 hw, ?_⟩
  rw [nI_clamp (n := w.1) (by omega), nI_clamp (n := A.length) (by omega)]
  intro b3 e3
  intro f ef
  rw [hth, hlen, nI_pred] at ef
  refine ⟨pk_in A.length 24 (by omega), ?_⟩
  subst e3
  generalize P ++ Q = C at hok' hlen hus' ef hp q2
  cases C with
  | nil =>
    have e : a2 A.length = -1 := q2
    refine br_f (by rw [e]; decide) ?_
    refine bv_drop (N := A.length + B.length) (by omega) (by omega) (by rw [hke, hAB]) (fun b1 b2 g1 g2 => ?_)
    refine hp _ _ _ _ _ ⟨hok', ?_, hma, ef, ?_, hus'⟩
    · show nI (A.length + B.length) = nI (A ++ B).length
      rw [List.length_append]
    · show bv_at b1 b2 a7 (A ++ B) 0
      refine bv_at_app.mpr ⟨bv_at_congr hat1 (fun j hj => ?_) (fun v _ => rfl), bv_at_congr hat3 (fun j hj => ?_) (fun v _ => rfl)⟩
      · rw [Nat.zero_add]
        exact g1 j hj
      · rw [Nat.zero_add, show A.length + 1 + j = A.length + j + 1 by omega]
        exact g2 (A.length + j) (by omega) (by omega)
  | cons v t =>
    have e : a2 A.length = nI v.1 := q2.1
    have hv : v.1 < 24 := (hok'.2.2.2 v (by rw [bv_vs_put]; simp)).1
    refine br_t (by rw [e]; exact nI_pos' (by omega)) (hp _ _ _ _ _ ⟨hok', ?_, hma, ef, ?_, hus'⟩)
    · show ke = nI (A ++ (k, v :: t) :: B).length
      rw [hke, hAB, List.length_append, List.length_cons]
      rfl
    · show bv_at a1 a2 a7 (A ++ (k, v :: t) :: B) 0
      refine bv_at_app.mpr ⟨hat1, ?_⟩
      rw [Nat.zero_add]
      exact ⟨⟨q1, q2⟩, hat3⟩
theorem bv_u49 {post : Int32 → St1 → Prop} {A B : List bv_E} {k : Nat} {P Q : List bv_V} {w : bv_V} {x3 : Int32} (hI : bv_I (A ++ (k, P ++ w :: Q) :: B) M ke ma th a1 a2 a3 a4 a5 a6 a7) (hla : bv_la P x3)
    (hp : ∀ (ke' th' : Int32) (a1' a2' a3' a7' : Nat → Int32), bv_I (bv_put A k (P ++ Q) B) M ke' ma th' a1' a2' a3' a4 a5 a6 a7' → post 1 (ty, bu, ke', ma, th', a1', a2', a3', a4, a5, a6, a7', a8, a9, a10)) : wX_unchain_49 post (nI A.length) (nI w.1) x3 (nI w.1) ty bu ke ma th a1 a2 a3 a4 a5 a6 a7 a8 a9 a10 := by
  obtain ⟨hok, hke, hma, hth, hat, hus⟩ := hI
  have hl := bv_keys24 hok
  rw [List.length_append, List.length_cons] at hl
  obtain ⟨hat1, hat2⟩ := bv_at_app.mp hat
  rw [Nat.zero_add] at hat2
  obtain ⟨⟨q1, q2⟩, hat3⟩ := hat2
  have hw : w.1 < 24 := (hok.2.2.2 w (by rw [bv_vs_mid]; exact List.mem_append_right _ (List.mem_cons_self ..))).1
  have hr : ∀ v ∈ (bv_vs A ++ P) ++ (Q ++ bv_vs B), v.1 ≠ w.1 ∧ v.2.1 ≠ w.2.1 := by
    have hpw := hok.2.2.1
    rw [bv_vs_mid] at hpw
    exact bv_rest hpw
  obtain ⟨z, s1, s2⟩ := bv_sg_app.mp (show bv_sg a7 (P ++ w :: Q) (a2 A.length) (-1) from q2)
  obtain ⟨s3, s4⟩ := s2
  unfold wX_unchain_49
  refine br_t rfl ?_
  rw [nI_clamp (n := w.1) (by omega), nI_clamp (n := A.length) (by omega)]
  rcases hla with ⟨hP, hx⟩ | ⟨P', b, hP, hx⟩
  · subst hP hx
    refine br_t (by decide) ⟨pk_in w.1 24 hw, pk_in A.length 24 (by omega), ?_⟩
    intro b2 e2
    subst e2
    refine bv_u88 (P := []) hok hke hma hth hus ?_ q1 ?_ ?_ (fun ke' th' a1' a2' a3' h => hp _ _ _ _ _ _ h)
    · exact bv_at_congr hat1 (fun j hj => ⟨rfl, pk_un (by omega)⟩) (fun _ _ => rfl)
    · rw [pk_us]
      exact s4
    · exact bv_at_congr hat3 (fun j hj => ⟨rfl, pk_un (by omega)⟩) (fun _ _ => rfl)
  · subst hP hx
    have hbm : b ∈ (bv_vs A ++ (P' ++ [b])) ++ (Q ++ bv_vs B) := by simp
    have hb : b.1 < 24 := (hok.2.2.2 b (by rw [bv_vs_mid]; simp)).1
    have hpw := hok.2.2.1
    rw [show bv_vs (A ++ (k, (P' ++ [b]) ++ w :: Q) :: B) = (bv_vs A ++ P') ++ b :: (w :: Q ++ bv_vs B) by rw [bv_vs_mid]; simp] at hpw
    have hrb := bv_rest hpw
    refine br_f (nI_pos (by omega)) ⟨pk_in w.1 24 hw, pk_in b.1 24 hb, ?_⟩
    rw [nI_clamp (n := b.1) (by omega)]
    intro b7 e7
    subst e7
    refine bv_u88 (P := P' ++ [b]) hok hke hma hth hus ?_ q1 ?_ ?_ (fun ke' th' a1' a2' a3' h => hp _ _ _ _ _ _ h)
    · exact bv_at_congr hat1 (fun j hj => ⟨rfl, rfl⟩) (fun v hv => pk_un (hrb v (by simp [hv])).1)
    · obtain ⟨y, s5, s6⟩ := bv_sg_app.mp s1
      obtain ⟨s7, s8⟩ := s6
      have s8' : a7 b.1 = z := s8
      refine bv_sg_app.mpr ⟨a7 w.1, bv_sg_app.mpr ⟨y, bv_sg_congr s5 (fun v hv => pk_un (hrb v (by simp [hv])).1), s7, pk_us⟩, bv_sg_congr s4 (fun v hv => pk_un (hrb v (by simp [hv])).1)⟩
    · exact bv_at_congr hat3 (fun j hj => ⟨rfl, rfl⟩) (fun v hv => pk_un (hrb v (by simp [hv])).1)
theorem bv_unchain_in {post : Int32 → St1 → Prop} {A B : List bv_E} {k : Nat} {P Q : List bv_V} {w : bv_V} (hI : bv_I (A ++ (k, P ++ w :: Q) :: B) M ke ma th a1 a2 a3 a4 a5 a6 a7)
    (hp : ∀ (ke' th' : Int32) (a1' a2' a3' a7' : Nat → Int32), bv_I (bv_put A k (P ++ Q) B) M ke' ma th' a1' a2' a3' a4 a5 a6 a7' → post 1 (ty, bu, ke', ma, th', a1', a2', a3', a4, a5, a6, a7', a8, a9, a10)) : wpX_unchain post (ty, bu, ke, ma, th, a1, a2, a3, a4, a5, a6, a7, a8, a9, a10) (nI A.length) (nI w.1) := by
  have hok := hI.1
  have hl := bv_keys24 hok
  rw [List.length_append, List.length_cons] at hl
  have hc := bv_chain24 hok
  rw [List.length_append, List.length_cons] at hc
  have hat2 := (bv_at_app.mp hI.2.2.2.2.1).2
  rw [Nat.zero_add] at hat2
  obtain ⟨⟨q1, q2⟩, hat3⟩ := hat2
  have hw : w.1 < 24 := (hok.2.2.2 w (by rw [bv_vs_mid]; exact List.mem_append_right _ (List.mem_cons_self ..))).1
  have hr : ∀ v ∈ (bv_vs A ++ P) ++ (Q ++ bv_vs B), v.1 ≠ w.1 ∧ v.2.1 ≠ w.2.1 := by
    have hpw := hok.2.2.1
    rw [bv_vs_mid] at hpw
    exact bv_rest hpw
  have hP24 : ∀ v ∈ P, v.1 < 24 := fun v hv => (hok.2.2.2 v (by rw [bv_vs_mid]; simp [hv])).1
  have key : ∀ (Pr Pd : List bv_V) (n : Nat) (x3 x4 : Int32), P = Pd ++ Pr → bv_la Pd x3 → bv_sg a7 (Pr ++ w :: Q) x4 (-1) → Pr.length < n → wX_unchain_13 post (nI A.length) (nI w.1) ty bu ke ma th a1 a2 a3 a4 a5 a6 a7 a8 a9 a10 n x3 x4 (nI Pd.length) := by
    intro Pr
    induction Pr with
    | nil =>
      intro Pd n x3 x4 hPd hla hs hn
      rw [List.append_nil] at hPd
      subst hPd
      obtain ⟨m, rfl⟩ : ∃ m, n = m + 1 := ⟨n - 1, by omega⟩
      have e4 : x4 = nI w.1 := hs.1
      subst e4
      exact pk_le 24 P.length (fun z => absurd z (by omega)) (fun z => br_f (nI_pos (by omega)) (br_t rfl (bv_u49 hI hla hp)))
    | cons b Pr ih =>
      intro Pd n x3 x4 hPd hla hs hn
      rw [List.length_cons] at hn
      obtain ⟨m, rfl⟩ : ∃ m, n = m + 1 := ⟨n - 1, by omega⟩
      have e4 : x4 = nI b.1 := hs.1
      subst e4
      have hbP : b ∈ P := by rw [hPd]; simp
      have hb := hP24 b hbP
      have hbw := (hr b (by simp [hbP])).1
      have hlP : P.length = Pd.length + (Pr.length + 1) := by rw [hPd, List.length_append, List.length_cons]
      refine pk_le 24 Pd.length (fun z => absurd z (by omega)) (fun z => br_f (nI_pos (by omega)) (br_f (fun y => ?_) ⟨pk_in b.1 24 hb, ?_⟩))
      · rw [nI_eq (by omega) (by omega)] at y
        exact hbw y
      · rw [nI_clamp (n := b.1) (by omega)]
        intro x ex
        subst ex
        intro x5 e5
        rw [nI_1] at e5
        have := ih (Pd ++ [b]) m (nI b.1) (a7 b.1) (by rw [hPd]; simp) (Or.inr ⟨Pd, b, rfl, rfl⟩) hs.2 (by omega)
        rw [List.length_append, List.length_singleton] at this
        rw [e5]
        exact this
  unfold wpX_unchain
  refine ⟨pk_in A.length 24 (by omega), ?_⟩
  rw [nI_clamp (by omega)]
  intro x ex
  subst ex
  exact ⟨P.length + 1, key P [] (P.length + 1) (-1) _ rfl (Or.inl ⟨rfl, rfl⟩) q2 (by omega)⟩
theorem bv_unchain_out {post : Int32 → St1 → Prop} {A B : List bv_E} {k s : Nat} {C : List bv_V} (hI : bv_I (A ++ (k, C) :: B) M ke ma th a1 a2 a3 a4 a5 a6 a7) (hs : s < 24) (hC : ∀ v ∈ C, v.1 ≠ s) (hp : post 0 (ty, bu, ke, ma, th, a1, a2, a3, a4, a5, a6, a7, a8, a9, a10)) : wpX_unchain post (ty, bu, ke, ma, th, a1, a2, a3, a4, a5, a6, a7, a8, a9, a10) (nI A.length) (nI s) := by
  have hok := hI.1
  have hl := bv_keys24 hok
  rw [List.length_append, List.length_cons] at hl
  have hc := bv_chain24 hok
  have hat2 := (bv_at_app.mp hI.2.2.2.2.1).2
  rw [Nat.zero_add] at hat2
  obtain ⟨⟨q1, q2⟩, hat3⟩ := hat2
  have hC24 : ∀ v ∈ C, v.1 < 24 := fun v hv => (hok.2.2.2 v (by rw [bv_vs_app, bv_vs_cons]; simp [hv])).1
  have h49 : ∀ x3, wX_unchain_49 post (nI A.length) (nI s) x3 (-1) ty bu ke ma th a1 a2 a3 a4 a5 a6 a7 a8 a9 a10 := fun x3 => by
    unfold wX_unchain_49
    refine br_f (fun y => ?_) hp
    have := nI_pos (n := s) (by omega)
    rw [← y] at this
    exact this (by decide)
  have key : ∀ (T : List bv_V) (n c : Nat) (x3 x4 : Int32), (∀ v ∈ T, v ∈ C) → bv_sg a7 T x4 (-1) → c + T.length ≤ 24 → T.length < n → wX_unchain_13 post (nI A.length) (nI s) ty bu ke ma th a1 a2 a3 a4 a5 a6 a7 a8 a9 a10 n x3 x4 (nI c) := by
    intro T
    induction T with
    | nil =>
      intro n c x3 x4 _ h hc hn
      obtain ⟨m, rfl⟩ : ∃ m, n = m + 1 := ⟨n - 1, by omega⟩
      have e : x4 = -1 := h
      subst e
      exact br_c (fun _ => h49 x3) (fun _ => br_t (by decide) (h49 x3))
    | cons b T ih =>
      intro n c x3 x4 hT h hc hn
      rw [List.length_cons] at hn hc
      obtain ⟨m, rfl⟩ : ∃ m, n = m + 1 := ⟨n - 1, by omega⟩
      have e : x4 = nI b.1 := h.1
      subst e
      have hbC := hT b (List.mem_cons_self ..)
      have hb := hC24 b hbC
      refine pk_le 24 c (fun z => absurd z (by omega)) (fun z => br_f (nI_pos (by omega)) (br_f (fun y => ?_) ⟨pk_in b.1 24 hb, ?_⟩))
      · rw [nI_eq (by omega) (by omega)] at y
        exact hC b hbC y
      · rw [nI_clamp (n := b.1) (by omega)]
        intro x ex
        subst ex
        intro x5 e5
        rw [nI_1] at e5
        rw [e5]
        exact ih m (c + 1) _ _ (fun v hv => hT v (List.mem_cons_of_mem _ hv)) h.2 (by omega) (by omega)
  unfold wpX_unchain
  refine ⟨pk_in A.length 24 (by omega), ?_⟩
  rw [nI_clamp (by omega)]
  intro x ex
  subst ex
  exact ⟨C.length + 1, key C (C.length + 1) 0 (-1) _ (fun v hv => hv) q2 (by omega) (by omega)⟩
theorem bv_slot_in {post : Int32 → Prop} {w : bv_V} (hI : bv_I D M ke ma th a1 a2 a3 a4 a5 a6 a7) (hw : w ∈ bv_vs D) (hp : post (nI w.1)) : wpX_slotOf post (ty, bu, ke, ma, th, a1, a2, a3, a4, a5, a6, a7, a8, a9, a10) w.2.1 := by
  obtain ⟨hok, _, _, _, _, hus⟩ := hI
  have hw24 := (hok.2.2.2 w hw).1
  obtain ⟨u1, u2, _⟩ := hus.1 w hw
  have key : ∀ n i, i ≤ w.1 → w.1 - i < n → wX_slotOf_2 post w.2.1 ty bu ke ma th a1 a2 a3 a4 a5 a6 a7 a8 a9 a10 n (nI i) := by
    intro n
    induction n with
    | zero => intro i _ h; exact absurd h (by omega)
    | succ n ih =>
      intro i hi hn
      have nx : i ≠ w.1 → ∀ x : Int32, x = nI i + 1 → wX_slotOf_2 post w.2.1 ty bu ke ma th a1 a2 a3 a4 a5 a6 a7 a8 a9 a10 n x := by
        intro hne x ex
        rw [nI_1] at ex
        subst ex
        exact ih (i + 1) (by omega) (by omega)
      refine pk_le 24 i (fun z => absurd z (by omega)) (fun z => ⟨pk_in i 24 (by omega), ?_⟩)
      rw [nI_clamp (by omega)]
      by_cases e : i = w.1
      · rw [e, u1, u2]
        exact br_f (by decide) ⟨pk_in w.1 24 hw24, br_t rfl hp⟩
      · refine br_c (fun _ => nx e) (fun g => ⟨pk_in i 24 (by omega), br_f (fun y => ?_) (nx e)⟩)
        by_cases q : ∃ v ∈ bv_vs D, v.1 = i
        · obtain ⟨v, hv, ev⟩ := q
          have h4 := (hus.1 v hv).2.1
          rw [ev, y] at h4
          exact bv_pw_ne hok.2.2.1 hv hw (by rw [ev]; exact e) h4.symm
        · exact g (hus.2 i (by omega) (fun v hv ev => q ⟨v, hv, ev⟩))
  exact ⟨w.1 + 1, key (w.1 + 1) 0 (by omega) (by omega)⟩
theorem bv_slot_out {post : Int32 → Prop} {y : Int32} (hI : bv_I D M ke ma th a1 a2 a3 a4 a5 a6 a7) (hy : ∀ v ∈ bv_vs D, v.2.1 ≠ y) (hp : post (-1)) : wpX_slotOf post (ty, bu, ke, ma, th, a1, a2, a3, a4, a5, a6, a7, a8, a9, a10) y := by
  obtain ⟨hok, _, _, _, _, hus⟩ := hI
  have key : ∀ n i, i ≤ 24 → 24 - i < n → wX_slotOf_2 post y ty bu ke ma th a1 a2 a3 a4 a5 a6 a7 a8 a9 a10 n (nI i) := by
    intro n
    induction n with
    | zero => intro i _ h; exact absurd h (by omega)
    | succ n ih =>
      intro i hi hn
      refine pk_le 24 i (fun z => hp) (fun z => ⟨pk_in i 24 (by omega), ?_⟩)
      have nx : ∀ x : Int32, x = nI i + 1 → wX_slotOf_2 post y ty bu ke ma th a1 a2 a3 a4 a5 a6 a7 a8 a9 a10 n x := by
        intro x ex
        rw [nI_1] at ex
        subst ex
        exact ih (i + 1) (by omega) (by omega)
      rw [nI_clamp (by omega)]
      refine br_c (fun _ => nx) (fun g => ⟨pk_in i 24 (by omega), br_f (fun e => ?_) nx⟩)
      by_cases q : ∃ v ∈ bv_vs D, v.1 = i
      · obtain ⟨v, hv, ev⟩ := q
        have h4 := (hus.1 v hv).2.1
        rw [ev, e] at h4
        exact hy v hv h4.symm
      · exact g (hus.2 i (by omega) (fun v hv ev => q ⟨v, hv, ev⟩))
  exact ⟨25, key 25 0 (by omega) (by omega)⟩
theorem bv_destroy_out {post : Int32 → St1 → Prop} {y : Int32} (hI : bv_I D M ke ma th a1 a2 a3 a4 a5 a6 a7) (hy : ∀ v ∈ bv_vs D, v.2.1 ≠ y) (hp : post (-4) (ty, bu, ke, ma, th, a1, a2, a3, a4, a5, a6, a7, a8, a9, a10)) : wpX_destroy post (ty, bu, ke, ma, th, a1, a2, a3, a4, a5, a6, a7, a8, a9, a10) y := by
  unfold wpX_destroy
  exact bv_slot_out hI hy (br_f (by decide) hp)
theorem bv_destroy_in {post : Int32 → St1 → Prop} {A B : List bv_E} {k : Nat} {P Q : List bv_V} {w : bv_V} {y : Int32} (hI : bv_I (A ++ (k, P ++ w :: Q) :: B) M ke ma th a1 a2 a3 a4 a5 a6 a7) (hy : y = w.2.1)
    (hp : ∀ (r ke' th' : Int32) (a1' a2' a3' a7' : Nat → Int32), bv_I (bv_put A k (P ++ Q) B) M ke' ma th' a1' a2' a3' a4 a5 a6 a7' → post r (ty, bu, ke', ma, th', a1', a2', a3', a4, a5, a6, a7', a8, a9, a10)) : wpX_destroy post (ty, bu, ke, ma, th, a1, a2, a3, a4, a5, a6, a7, a8, a9, a10) y := by
  have hok := hI.1
  have hl := bv_keys24 hok
  rw [List.length_append, List.length_cons] at hl
  have hwm : w ∈ bv_vs (A ++ (k, P ++ w :: Q) :: B) := by rw [bv_vs_mid]; exact List.mem_append_right _ (List.mem_cons_self ..)
  have hw : w.1 < 24 := (hok.2.2.2 w hwm).1
  have hr : ∀ v ∈ (bv_vs A ++ P) ++ (Q ++ bv_vs B), v.1 ≠ w.1 ∧ v.2.1 ≠ w.2.1 := by
    have hpw := hok.2.2.1
    rw [bv_vs_mid] at hpw
    exact bv_rest hpw
  have hke := hI.2.1
  rw [List.length_append, List.length_cons] at hke
  have key : ∀ (A2 A1 : List bv_E) (n : Nat), A = A1 ++ A2 → A2.length + 1 < n → wX_destroy_18 post (nI w.1) n 0 (nI A1.length) ty bu ke ma th a1 a2 a3 a4 a5 a6 a7 a8 a9 a10 := by
    intro A2
    induction A2 with
    | nil =>
      intro A1 n hA hn
      rw [List.append_nil] at hA
      subst hA
      obtain ⟨m, rfl⟩ : ∃ m, n = m + 2 := ⟨n - 2, by simp at hn; omega⟩
      refine br_f (by rw [hke]; exact nI_ge (by omega) (by omega)) (br_t rfl ?_)
      refine bv_unchain_in hI (fun ke' th' a1' a2' a3' a7' h => ?_)
      intro x ex
      exact br_c (fun _ => hp _ _ _ _ _ _ _ h) (fun _ => br_f (by decide) (hp _ _ _ _ _ _ _ h))
    | cons e A2 ih =>
      intro A1 n hA hn
      rw [List.length_cons] at hn
      obtain ⟨m, rfl⟩ : ∃ m, n = m + 1 := ⟨n - 1, by omega⟩
      have hlA : A.length = A1.length + (A2.length + 1) := by rw [hA, List.length_append, List.length_cons]
      refine br_f (by rw [hke]; exact nI_ge (by omega) (by omega)) (br_t rfl ?_)
      have hI' : bv_I (A1 ++ (e.1, e.2) :: (A2 ++ (k, P ++ w :: Q) :: B)) M ke ma th a1 a2 a3 a4 a5 a6 a7 := by
        rw [hA] at hI
        simp only [List.append_assoc, List.cons_append] at hI
        exact hI
      refine bv_unchain_out hI' hw (fun v hv => ?_) ?_
      · exact (hr v (List.mem_append_left _ (List.mem_append_left _ (by rw [hA]; exact bv_vs_mem.mpr ⟨e, by simp, hv⟩)))).1
      · intro x ex
        rw [nI_1] at ex
        have := ih (A1 ++ [e]) m (by rw [hA]; simp) (by omega)
        rw [List.length_append, List.length_singleton] at this
        rw [ex]
        exact this
  unfold wpX_destroy
  subst hy
  refine bv_slot_in hI hwm (br_t (nI_pos' (by omega)) ⟨A.length + 2, key A [] (A.length + 2) rfl (by omega)⟩)
end
end
section
/-- a lone marker goes -/
def bv_cu : List bv_V → List bv_V
  | [v] => if v.2.2.2 = 0 then [v] else []
  | l => l
def bv_e1 (st : Nat) (C : List bv_V) : List bv_V := bv_cu (C.take st)
def bv_ex (st : Nat) : List bv_E → List bv_E
  | [] => []
  | e :: t => bv_put [] e.1 (bv_e1 st e.2) (bv_ex st t)
theorem bv_put_app (X Y Z : List bv_E) (k : Nat) (C : List bv_V) : X ++ bv_put [] k C Y ++ Z = X ++ bv_put [] k C (Y ++ Z) := by
  cases C with
  | nil =>
    show X ++ Y ++ Z = X ++ (Y ++ Z)
    exact List.append_assoc ..
  | cons v t =>
    show X ++ (k, v :: t) :: Y ++ Z = X ++ (k, v :: t) :: (Y ++ Z)
    simp
theorem bv_put_nil (A B : List bv_E) (k : Nat) (C : List bv_V) : A ++ bv_put [] k C B = bv_put A k C B := by
  cases C with
  | nil => rfl
  | cons v t => rfl
theorem bv_ex_app (st : Nat) (X Y : List bv_E) : bv_ex st (X ++ Y) = bv_ex st X ++ bv_ex st Y := by
  induction X with
  | nil => rfl
  | cons e t ih =>
    show bv_put [] e.1 (bv_e1 st e.2) (bv_ex st (t ++ Y)) = bv_put [] e.1 (bv_e1 st e.2) (bv_ex st t) ++ bv_ex st Y
    rw [ih]
    exact (bv_put_app [] _ _ _ _).symm
theorem bv_ex_mem {st : Nat} {D : List bv_E} {e : bv_E} (h : e ∈ bv_ex st D) : ∃ x ∈ D, x.1 = e.1 := by
  induction D with
  | nil => exact absurd h (by simp [bv_ex])
  | cons d t ih =>
    rcases bv_put_mem (show e ∈ bv_put [] d.1 (bv_e1 st d.2) (bv_ex st t) from h) with y | y | ⟨y, _⟩
    · exact absurd y (by simp)
    · obtain ⟨x, hx, e⟩ := ih y
      exact ⟨x, List.mem_cons_of_mem _ hx, e⟩
    · exact ⟨d, List.mem_cons_self .., by rw [y]⟩
theorem bv_e1_nil (st : Nat) : bv_e1 st [] = [] := by
  unfold bv_e1
  rw [List.take_nil]
  rfl
theorem bv_ex_lk {st k : Nat} {D : List bv_E} (h : D.Pairwise (fun a b => a.1 < b.1)) : bv_lk k (bv_ex st D) = bv_e1 st (bv_lk k D) := by
  induction D with
  | nil => exact (bv_e1_nil st).symm
  | cons e t ih =>
    obtain ⟨h1, h2⟩ := List.pairwise_cons.mp h
    have ih' := ih h2
    show bv_lk k (bv_put [] e.1 (bv_e1 st e.2) (bv_ex st t)) = bv_e1 st (if e.1 = k then e.2 else bv_lk k t)
    by_cases q : e.1 = k
    · rw [if_pos q, q]
      refine bv_lk_put _ (by simp) (fun x hx => ?_)
      obtain ⟨y, hy, ey⟩ := bv_ex_mem hx
      rw [← ey, ← q]
      exact h1 y hy
    · rw [if_neg q, ← ih']
      cases bv_e1 st e.2 with
      | nil => rfl
      | cons v s => exact if_neg q
theorem bv_e1_cons (st : Nat) (v : bv_V) (t : List bv_V) : (v.2.2.2 ≠ 0 ∧ bv_e1 (st + 1) (v :: t) = []) ∨ ∃ t', bv_e1 (st + 1) (v :: t) = v :: t' := by
  unfold bv_e1
  rw [List.take_succ_cons]
  cases t.take st with
  | nil =>
    by_cases z : v.2.2.2 = 0
    · exact Or.inr ⟨[], if_pos z⟩
    · exact Or.inl ⟨z, if_neg z⟩
  | cons w s => exact Or.inr ⟨w :: s, rfl⟩
theorem bv_e1_p (st : Nat) (C : List bv_V) : bv_p (bv_e1 (st + 1) C) = bv_p C := by
  cases C with
  | nil => rw [bv_e1_nil]
  | cons v t =>
    rcases bv_e1_cons st v t with ⟨z, e⟩ | ⟨t', e⟩
    · rw [e]
      exact (if_neg z).symm
    · rw [e]
      rfl
theorem bv_e1_g (st : Nat) (C : List bv_V) : bv_g (bv_e1 (st + 1) C) = bv_g C := by
  cases C with
  | nil => rw [bv_e1_nil]
  | cons v t =>
    rcases bv_e1_cons st v t with ⟨z, e⟩ | ⟨t', e⟩
    · rw [e]
      exact (if_neg z).symm
    · rw [e]
      rfl
theorem bv_ex_ct (st : Nat) (D : List bv_E) : bv_ct (bv_ex (st + 1) D) = bv_ct D := by
  induction D with
  | nil => rfl
  | cons e t ih =>
    show bv_ct (bv_put [] e.1 (bv_e1 (st + 1) e.2) (bv_ex (st + 1) t)) = bv_p e.2 + bv_ct t
    rw [bv_ct_put, bv_e1_p, ih]
    show 0 + bv_p e.2 + bv_ct t = _
    omega
section
variable {ty bu ke ma th : Int32} {a1 a2 a3 a4 a5 a6 a7 a8 a9 a10 : Nat → Int32} {D : List bv_E} {M : Nat}
theorem bv_us_perm {l l' : List bv_V} (hp : l.Perm l') (h : bv_us a3 a4 a5 a6 l) : bv_us a3 a4 a5 a6 l' :=
  ⟨fun v hv => h.1 v (hp.mem_iff.mpr hv), fun s hs hn => h.2 s hs (fun v hv => hn v (hp.mem_iff.mp hv))⟩
theorem bv_c60 {post : Int32 → St1 → Prop} {Z : List bv_V} (hp : ∀ (r th' : Int32) (a3' : Nat → Int32), th' = nI Z.length → bv_us a3' a4 a5 a6 Z → post r (ty, bu, ke, ma, th', a1, a2, a3', a4, a5, a6, a7, a8, a9, a10)) : ∀ (Q : List bv_V) (n c : Nat) (x4 x5 th : Int32) (a3 : Nat → Int32), (Z ++ Q).Pairwise (fun v w => v.1 ≠ w.1 ∧ v.2.1 ≠ w.2.1) → bv_us a3 a4 a5 a6 (Z ++ Q) → th = nI (Z ++ Q).length → bv_sg a7 Q x5 (-1) → (∀ v ∈ Q, v.1 < 24) → c + Q.length ≤ 24 → Q.length < n → wX_cutChain_60 post ty bu ke ma n x4 x5 (nI c) th a1 a2 a3 a4 a5 a6 a7 a8 a9 a10 := by
  intro Q
  induction Q with
  | nil =>
    intro n c x4 x5 th a3 _ hus hth hs _ hc hn
    obtain ⟨m, rfl⟩ : ∃ m, n = m + 1 := ⟨n - 1, by omega⟩
    rw [List.append_nil] at hus hth
    have e : x5 = -1 := hs
    subst e
    exact br_c (fun _ => hp _ _ _ hth hus) (fun _ => br_t (by decide) (hp _ _ _ hth hus))
  | cons w Q ih =>
    intro n c x4 x5 th a3 hpw hus hth hs h24 hc hn
    rw [List.length_cons] at hn hc
    obtain ⟨m, rfl⟩ : ∃ m, n = m + 1 := ⟨n - 1, by omega⟩
    have e : x5 = nI w.1 := hs.1
    subst e
    have hw := h24 w (List.mem_cons_self ..)
    refine pk_le 24 c (fun z => absurd z (by omega)) (fun z => br_f (nI_pos (by omega)) ⟨pk_in w.1 24 hw, ?_⟩)
    rw [nI_clamp (n := w.1) (by omega)]
    intro b3 e3
    intro f ef
    intro y4 ey4
    refine ⟨pk_in w.1 24 hw, ?_⟩
    intro y5 ey5
    intro y6 ey6
    rw [nI_1] at ey6
    subst e3 ey5 ey6
    have hth' : f = nI (Z ++ Q).length := by
      rw [ef, hth, List.length_append, List.length_append, List.length_cons, ← Nat.add_assoc, nI_pred]
    refine ih m (c + 1) _ _ _ _ ?_ (bv_us_del hpw hus) hth' hs.2 (fun v hv => h24 v (List.mem_cons_of_mem _ hv)) (by omega) (by omega)
    exact List.Pairwise.sublist (List.Sublist.append (List.Sublist.refl _) (List.sublist_cons_self ..)) hpw
theorem bv_cut {post : Int32 → St1 → Prop} {A B : List bv_E} {k st : Nat} {C : List bv_V} (hI : bv_I (A ++ (k, C) :: B) M ke ma th a1 a2 a3 a4 a5 a6 a7) (hst1 : 1 ≤ st) (hst : st < 1000)
    (hp : ∀ (r th' : Int32) (a3' a7' : Nat → Int32), bv_I (A ++ (k, C.take st) :: B) M ke ma th' a1 a2 a3' a4 a5 a6 a7' → post r (ty, bu, ke, ma, th', a1, a2, a3', a4, a5, a6, a7', a8, a9, a10)) : wpX_cutChain post (ty, bu, ke, ma, th, a1, a2, a3, a4, a5, a6, a7, a8, a9, a10) (nI A.length) (nI st) := by
  have hI0 := hI
  obtain ⟨hok, hke, hma, hth, hat, hus⟩ := hI
  have hl := bv_keys24 hok
  rw [List.length_append, List.length_cons] at hl
  have hc := bv_chain24 hok
  obtain ⟨hat1, hat2⟩ := bv_at_app.mp hat
  rw [Nat.zero_add] at hat2
  obtain ⟨⟨q1, q2⟩, hat3⟩ := hat2
  have hC24 : ∀ v ∈ C, v.1 < 24 := fun v hv => (hok.2.2.2 v (by rw [bv_vs_app, bv_vs_cons]; simp [hv])).1
  have h33i : C.length ≤ st → wX_cutChain_33 post (-1) ty bu ke ma th a1 a2 a3 a4 a5 a6 a7 a8 a9 a10 := fun z => by
    unfold wX_cutChain_33
    refine br_f (by decide) (hp _ _ _ _ ?_)
    rw [List.take_of_length_le z]
    exact hI0
  have h33j : ∀ (P : List bv_V) (v : bv_V) (Q : List bv_V), C = P ++ v :: Q → P.length + 1 = st → wX_cutChain_33 post (nI v.1) ty bu ke ma th a1 a2 a3 a4 a5 a6 a7 a8 a9 a10 := by
    intro P v Q hC hP
    have hv := hC24 v (by rw [hC]; simp)
    have htk : C.take st = P ++ [v] := by
      rw [hC, show P ++ v :: Q = (P ++ [v]) ++ Q by simp]
      exact List.take_left' (by rw [List.length_append, List.length_singleton]; exact hP)
    rw [htk] at hp
    subst hC
    have hpw := hok.2.2.1
    have hpw1 := hpw
    rw [bv_vs_mid] at hpw1
    have hr := bv_rest hpw1
    have hok' : bv_ok (A ++ (k, P ++ [v]) :: B) M := by
      have := bv_ok_sub (C' := P ++ [v]) hok (List.Sublist.append (List.Sublist.refl _) (by simp))
      rw [bv_put_ne (by simp)] at this
      exact this
    have hperm : (bv_vs (A ++ (k, P ++ v :: Q) :: B)).Perm (bv_vs (A ++ (k, P ++ [v]) :: B) ++ Q) := by
      have e1 : bv_vs (A ++ (k, P ++ v :: Q) :: B) = (bv_vs A ++ (P ++ [v])) ++ (Q ++ bv_vs B) := by
        rw [bv_vs_mid]
        simp
      have e2 : bv_vs (A ++ (k, P ++ [v]) :: B) ++ Q = (bv_vs A ++ (P ++ [v])) ++ (bv_vs B ++ Q) := by
        rw [bv_vs_app, bv_vs_cons]
        simp
      rw [e1, e2]
      exact List.Perm.append_left _ List.perm_append_comm
    obtain ⟨z, s1, s2⟩ := bv_sg_app.mp (show bv_sg a7 (P ++ v :: Q) (a2 A.length) (-1) from q2)
    obtain ⟨s3, s4⟩ := s2
    unfold wX_cutChain_33
    refine br_t (nI_pos' (by omega)) ⟨pk_in v.1 24 hv, ?_⟩
    rw [nI_clamp (n := v.1) (by omega)]
    intro x5 e5
    refine ⟨pk_in v.1 24 hv, ?_⟩
    intro b7 e7
    rw [List.length_append, List.length_cons] at hc
    refine ⟨Q.length + 1, ?_⟩
    subst e7 e5
    refine bv_c60 (Z := bv_vs (A ++ (k, P ++ [v]) :: B)) (fun r th' a3' gth gus => hp r th' a3' _ ⟨hok', ?_, hma, gth, ?_, gus⟩) Q (Q.length + 1) 0 0 _ _ _ (List.Perm.pairwise hperm hpw (fun z => ⟨fun y => z.1 y.symm, fun y => z.2 y.symm⟩)) (bv_us_perm hperm hus) (by rw [hth, hperm.length_eq]) (bv_sg_congr s4 (fun w hw => pk_un (hr w (by simp [hw])).1)) (fun w hw => hC24 w (by simp [hw])) (by omega) (by omega)
    · rw [hke, List.length_append, List.length_append, List.length_cons, List.length_cons]
    · refine bv_at_app.mpr ⟨bv_at_congr hat1 (fun j hj => ⟨rfl, rfl⟩) (fun w hw => pk_un (hr w (by simp [hw])).1), ?_⟩
      rw [Nat.zero_add]
      exact ⟨⟨q1, bv_sg_app.mpr ⟨z, bv_sg_congr s1 (fun w hw => pk_un (hr w (by simp [hw])).1), s3, pk_us⟩⟩, bv_at_congr hat3 (fun j hj => ⟨rfl, rfl⟩) (fun w hw => pk_un (hr w (by simp [hw])).1)⟩
  have key : ∀ (Cr Pd : List bv_V) (n : Nat) (x3 : Int32), C = Pd ++ Cr → Pd.length + 1 ≤ st → bv_sg a7 Cr x3 (-1) → Cr.length < n → wX_cutChain_10 post (nI st) ty bu ke ma th a1 a2 a3 a4 a5 a6 a7 a8 a9 a10 n x3 (nI (Pd.length + 1)) := by
    intro Cr
    induction Cr with
    | nil =>
      intro Pd n x3 hC hPd hs hn
      obtain ⟨m, rfl⟩ : ∃ m, n = m + 1 := ⟨n - 1, by omega⟩
      have e : x3 = -1 := hs
      subst e
      rw [List.append_nil] at hC
      have := h33i (by rw [hC]; omega)
      exact br_c (fun _ => this) (fun _ => br_t (by decide) this)
    | cons v Q ih =>
      intro Pd n x3 hC hPd hs hn
      rw [List.length_cons] at hn
      obtain ⟨m, rfl⟩ : ∃ m, n = m + 1 := ⟨n - 1, by omega⟩
      have e : x3 = nI v.1 := hs.1
      subst e
      have hv := hC24 v (by rw [hC]; simp)
      have hlC : C.length = Pd.length + (Q.length + 1) := by rw [hC, List.length_append, List.length_cons]
      refine pk_le st (Pd.length + 1) (fun z => h33j Pd v Q hC (by omega)) (fun z => br_f (nI_pos (by omega)) ⟨pk_in v.1 24 hv, ?_⟩)
      rw [nI_clamp (n := v.1) (by omega)]
      intro x ex
      subst ex
      intro x5 e5
      rw [nI_1] at e5
      have := ih (Pd ++ [v]) m (a7 v.1) (by rw [hC]; simp) (by rw [List.length_append, List.length_singleton]; omega) hs.2 (by omega)
      rw [List.length_append, List.length_singleton] at this
      rw [e5]
      exact this
  unfold wpX_cutChain
  refine ⟨pk_in A.length 24 (by omega), ?_⟩
  rw [nI_clamp (by omega)]
  intro x ex
  subst ex
  exact ⟨C.length + 1, key C [] (C.length + 1) _ rfl (by simpa using hst1) q2 (by omega)⟩
theorem bv_e33 {post : Int32 → St1 → Prop} {st : Nat} (hst : st < 999) : ∀ (n : Nat) (A B : List bv_E) (x3 ke th : Int32) (a1 a2 a3 a7 : Nat → Int32), bv_I (A ++ B) M ke ma th a1 a2 a3 a4 a5 a6 a7 → A.length < n →
    (∀ (r ke' th' : Int32) (a1' a2' a3' a7' : Nat → Int32), bv_I (bv_ex (st + 1) A ++ B) M ke' ma th' a1' a2' a3' a4 a5 a6 a7' → post r (ty, bu, ke', ma, th', a1', a2', a3', a4, a5, a6, a7', a8, a9, a10)) → wX_expire_33 post (nI (st + 1)) n x3 (nI A.length + (-1)) ty bu ke ma th a1 a2 a3 a4 a5 a6 a7 a8 a9 a10 := by
  intro n
  induction n with
  | zero => intro A B x3 ke th a1 a2 a3 a7 _ h; exact absurd h (by omega)
  | succ n ih =>
    intro A B x3 ke th a1 a2 a3 a7 hI hn hp
    rcases List.eq_nil_or_concat A with hA | ⟨A', e, hA⟩
    · subst hA
      exact br_t (by decide) (hp _ _ _ _ _ _ _ hI)
    · rw [List.concat_eq_append] at hA
      subst hA
      rw [List.length_append, List.length_singleton] at hn
      obtain ⟨k, C⟩ := e
      have hI' : bv_I (A' ++ (k, C) :: B) M ke ma th a1 a2 a3 a4 a5 a6 a7 := by
        rw [show A' ++ (k, C) :: B = A' ++ [(k, C)] ++ B by simp]
        exact hI
      have hl := bv_keys24 hI'.1
      rw [List.length_append, List.length_cons] at hl
      have hne : C ≠ [] := (hI'.1.2.1 (k, C) (by simp)).2.2.1
      have hB' : bv_ex (st + 1) (A' ++ [(k, C)]) ++ B = bv_ex (st + 1) A' ++ bv_put [] k (bv_e1 (st + 1) C) B := by
        rw [bv_ex_app]
        exact bv_put_app _ [] B _ _
      rw [hB'] at hp
      rw [List.length_append, List.length_singleton, pk_m1]
      refine br_f (nI_pos (by omega)) (bv_cut hI' (by omega) (by omega) (fun r th' a3' a7' hJ => ?_))
      intro y3 ey3
      refine ⟨pk_in A'.length 24 (by omega), ?_⟩
      rw [nI_clamp (by omega)]
      intro y5 ey5
      obtain ⟨v, t, htk⟩ : ∃ v t, C.take (st + 1) = v :: t := by
        cases C with
        | nil => exact absurd rfl hne
        | cons v t => exact ⟨v, t.take st, List.take_succ_cons⟩
      rw [htk] at hJ
      have he1 : bv_e1 (st + 1) C = bv_cu (v :: t) := by
        unfold bv_e1
        rw [htk]
      rw [he1] at hp
      obtain ⟨m1, m2, m3, m4, m5, m6, m7, m8, m9⟩ := bv_mid hJ
      rw [m3] at ey5
      subst ey5
      have hstay : bv_cu (v :: t) = v :: t → ∀ (z3 : Int32) (x : Int32), x = nI A'.length + (-1) → wX_expire_33 post (nI (st + 1)) n z3 x ty bu ke ma th' a1 a2 a3' a4 a5 a6 a7' a8 a9 a10 := by
        intro hcu z3 x ex
        subst ex
        rw [hcu] at hp
        exact ih A' ((k, v :: t) :: B) z3 _ _ _ _ _ _ hJ (by omega) hp
      refine ⟨pk_in v.1 24 m4, ?_⟩
      rw [nI_clamp (by omega), m8]
      refine br_c (fun g => hstay ?_ _) (fun g => ⟨pk_in v.1 24 m4, br_c (fun g2 => hstay ?_ _) (fun g2 => ?_)⟩)
      · cases t with
        | nil => exact if_pos g
        | cons w s => rfl
      · cases t with
        | nil =>
          have e7 : a7' v.1 = -1 := m9
          rw [e7] at g2
          exact absurd g2 (by decide)
        | cons w s => rfl
      · cases t with
        | nil =>
          have hcu : bv_cu [v] = [] := if_neg g
          rw [hcu] at hp
          refine bv_unchain_in (P := []) (Q := []) hJ (fun ke2 th2 b1 b2 b3 b7 hK => ?_)
          intro z3 ez3
          intro z4 ez4
          subst ez4
          exact ih A' B z3 _ _ _ _ _ _ hK (by omega) hp
        | cons w s =>
          have e7 : a7' v.1 = nI w.1 := m9.1
          have hw : w.1 < 24 := (hJ.1.2.2.2 w (by rw [bv_vs_app, bv_vs_cons]; simp)).1
          exact absurd (by rw [e7]; exact nI_pos' (by omega)) g2
theorem bv_expire {post : Int32 → St1 → Prop} {st : Nat} {y : Int32} (hI : bv_I D M ke ma th a1 a2 a3 a4 a5 a6 a7) (hy : y = nI st) (hst : st ≤ 24)
    (hp : ∀ (r ke' th' : Int32) (a1' a2' a3' a7' : Nat → Int32), bv_I (bv_ex (st + 1) D) M ke' ma th' a1' a2' a3' a4 a5 a6 a7' → post r (ty, bu, ke', ma, th', a1', a2', a3', a4, a5, a6, a7', a8, a9, a10)) : wpX_expire post (ty, bu, ke, ma, th, a1, a2, a3, a4, a5, a6, a7, a8, a9, a10) y := by
  subst hy
  unfold wpX_expire
  refine br_t (nI_pos' (by omega)) (br_t (nI_le (b := 24) hst (by omega)) ?_)
  unfold wX_expire_22
  intro x ex
  rw [hI.2.1, Int32.sub_eq_add_neg] at ex
  subst ex
  rw [nI_1]
  refine ⟨D.length + 1, bv_e33 (by omega) (D.length + 1) D [] 0 _ _ _ _ _ _ (by rw [List.append_nil]; exact hI) (by omega) ?_⟩
  intro r ke' th' a1' a2' a3' a7' h
  rw [List.append_nil] at h
  exact hp _ _ _ _ _ _ _ h
end
end
section
def bv_u (p : Nat) : Nat := if p = 0 then 343 else if p = 1 then 49 else if p = 2 then 7 else 1
/-- the place of the first folder letter, 4: none -/
def bv_fp (k : Nat) : Nat := if k / 343 % 7 = 6 then 0 else if k / 49 % 7 = 6 then 1 else if k / 7 % 7 = 6 then 2 else if k / 1 % 7 = 6 then 3 else 4
def bv_F (fo : Bool) (k : Nat) : Nat := if fo = true then k - k % bv_u (bv_fp k) else k
def bv_nx (fo : Bool) (k : Nat) : Nat := if fo = true then k - k % bv_u (bv_fp k) + bv_u (bv_fp k) else k + 1
theorem bv_u_pos (p : Nat) : 0 < bv_u p ∧ bv_u p ≤ 343 := by
  unfold bv_u
  split
  · omega
  · split
    · omega
    · split <;> omega
set_option maxRecDepth 100000 in
theorem bv_tab1 {k : Nat} (h : k < 2400) : bv_F true k ≤ bv_F true (k + 1) :=
  co_dec (N := 2400) (P := fun k => bv_F true k ≤ bv_F true (k + 1)) (by decide +kernel) h
set_option maxRecDepth 100000 in
theorem bv_tab2 {k : Nat} (h : k < 2401) : bv_nx true k < 2401 → bv_nx true k ≤ bv_F true (bv_nx true k) :=
  co_dec (N := 2401) (P := fun k => bv_nx true k < 2401 → bv_nx true k ≤ bv_F true (bv_nx true k)) (by decide +kernel) h
set_option maxRecDepth 100000 in
theorem bv_tab3 {k : Nat} (h : k < 2401) : 0 < k → 0 < bv_F true k :=
  co_dec (N := 2401) (P := fun k => 0 < k → 0 < bv_F true k) (by decide +kernel) h
theorem bv_F_le (fo : Bool) (k : Nat) : bv_F fo k ≤ k := by
  unfold bv_F
  split
  · exact Nat.sub_le _ _
  · exact Nat.le_refl _
theorem bv_F_nx (fo : Bool) (k : Nat) : bv_F fo k < bv_nx fo k := by
  have := bv_u_pos (bv_fp k)
  unfold bv_F bv_nx
  split <;> omega
theorem bv_k_nx (fo : Bool) (k : Nat) : k < bv_nx fo k := by
  have h1 := (bv_u_pos (bv_fp k)).1
  have h2 := Nat.mod_lt k h1
  unfold bv_nx
  split <;> omega
theorem bv_F_mono {fo : Bool} {a b : Nat} (h : a ≤ b) (hb : b < 2401) : bv_F fo a ≤ bv_F fo b := by
  cases fo with
  | false => exact h
  | true =>
    induction b with
    | zero => rw [show a = 0 by omega]; exact Nat.le_refl _
    | succ b ih =>
      by_cases e : a = b + 1
      · rw [e]
        exact Nat.le_refl _
      · exact Nat.le_trans (ih (by omega) (by omega)) (bv_tab1 (by omega))
theorem bv_F_next {fo : Bool} {a b : Nat} (ha : a < 2401) (h : bv_nx fo a ≤ b) (hb : b < 2401) : bv_F fo a < bv_F fo b := by
  cases fo with
  | false => exact h
  | true => exact Nat.lt_of_lt_of_le (bv_F_nx true a) (Nat.le_trans (bv_tab2 ha (by omega)) (bv_F_mono h hb))
theorem bv_F_pos {fo : Bool} {k : Nat} (h0 : 0 < k) (h : k < 2401) : 0 < bv_F fo k := by
  cases fo with
  | false => exact h0
  | true => exact bv_tab3 h h0
/-- E: the entries of a listing of R -/
def bv_L (fo : Bool) : List Nat → List bv_E → Prop
  | [] => fun R => ∀ e ∈ R, bv_p e.2 = 0
  | w :: E => fun R => ∃ (X : List bv_E) (e : bv_E) (Y Z : List bv_E), R = X ++ e :: (Y ++ Z) ∧ (∀ x ∈ X, bv_p x.2 = 0) ∧ bv_p e.2 = 1 ∧ w = bv_F fo e.1 ∧ (∀ y ∈ Y, y.1 < bv_nx fo e.1) ∧ (∀ z ∈ Z, bv_nx fo e.1 ≤ z.1) ∧ bv_L fo E Z
theorem bv_first (R : List bv_E) : (∀ e ∈ R, bv_p e.2 = 0) ∨ ∃ X e T, R = X ++ e :: T ∧ (∀ x ∈ X, bv_p x.2 = 0) ∧ bv_p e.2 = 1 := by
  induction R with
  | nil => exact Or.inl (by simp)
  | cons e t ih =>
    have h1 := bv_p_le e.2
    rcases (show bv_p e.2 = 0 ∨ bv_p e.2 = 1 by omega) with y | y
    · rcases ih with z | ⟨X, x, T, h2, h3, h4⟩
      · refine Or.inl (fun x hx => ?_)
        rcases List.mem_cons.mp hx with q | q
        · rw [q]
          exact y
        · exact z x q
      · refine Or.inr ⟨e :: X, x, T, by rw [h2]; rfl, fun q hq => ?_, h4⟩
        rcases List.mem_cons.mp hq with g | g
        · rw [g]
          exact y
        · exact h3 q g
    · exact Or.inr ⟨[], e, t, rfl, by simp, y⟩
theorem bv_cutAt (k : Nat) {D : List bv_E} (h : D.Pairwise (fun a b => a.1 < b.1)) : ∃ A B, D = A ++ B ∧ (∀ e ∈ A, e.1 < k) ∧ (∀ e ∈ B, k ≤ e.1) := by
  obtain ⟨A, B, hA, hB, hD⟩ := bv_split k h
  rcases hD with y | ⟨C, y⟩
  · exact ⟨A, B, y, hA, fun e he => Nat.le_of_lt (hB e he)⟩
  · refine ⟨A, (k, C) :: B, y, hA, fun e he => ?_⟩
    rcases List.mem_cons.mp he with z | z
    · rw [z]
      exact Nat.le_refl _
    · exact Nat.le_of_lt (hB e z)
theorem bv_L_ex (fo : Bool) : ∀ (n : Nat) (R : List bv_E), R.length < n → R.Pairwise (fun a b => a.1 < b.1) → ∃ E, bv_L fo E R := by
  intro n
  induction n with
  | zero => intro R h; exact absurd h (by omega)
  | succ n ih =>
    intro R hn hs
    rcases bv_first R with y | ⟨X, e, T, h1, h2, h3⟩
    · exact ⟨[], y⟩
    · rw [h1] at hs hn
      have hT := (List.pairwise_cons.mp (List.pairwise_append.mp hs).2.1).2
      obtain ⟨Y, Z, h4, h5, h6⟩ := bv_cutAt (bv_nx fo e.1) hT
      rw [h4] at hT hn
      obtain ⟨E, hE⟩ := ih Z (by simp only [List.length_append, List.length_cons] at hn; omega) (List.pairwise_append.mp hT).2.1
      exact ⟨bv_F fo e.1 :: E, X, e, Y, Z, by rw [h1, h4], h2, h3, rfl, h5, h6, hE⟩
theorem bv_ct0 {R : List bv_E} (h : ∀ e ∈ R, bv_p e.2 = 0) : bv_ct R = 0 := by
  induction R with
  | nil => rfl
  | cons e t ih =>
    rw [bv_ct_cons, h e (List.mem_cons_self ..), ih (fun x hx => h x (List.mem_cons_of_mem _ hx))]
theorem bv_L_len {fo : Bool} {E : List Nat} {R : List bv_E} (h : bv_L fo E R) : E.length ≤ bv_ct R := by
  induction E generalizing R with
  | nil => exact Nat.zero_le _
  | cons w E ih =>
    obtain ⟨X, e, Y, Z, h1, h2, h3, h4, h5, h6, h7⟩ := h
    have := ih h7
    rw [h1, bv_ct_app, bv_ct_cons, bv_ct_app, h3, List.length_cons]
    omega
theorem bv_L_len0 {E : List Nat} {R : List bv_E} (h : bv_L false E R) (hs : R.Pairwise (fun a b => a.1 < b.1)) : E.length = bv_ct R := by
  induction E generalizing R with
  | nil => exact (bv_ct0 h).symm
  | cons w E ih =>
    obtain ⟨X, e, Y, Z, h1, h2, h3, h4, h5, h6, h7⟩ := h
    rw [h1] at hs
    obtain ⟨g1, g2⟩ := List.pairwise_cons.mp (List.pairwise_append.mp hs).2.1
    have hY : Y = [] := by
      cases Y with
      | nil => rfl
      | cons y Y' =>
        have q1 := h5 y (List.mem_cons_self ..)
        have q2 := g1 y (by simp)
        have q3 : bv_nx false e.1 = e.1 + 1 := rfl
        omega
    have := ih h7 (List.pairwise_append.mp g2).2.1
    rw [h1, hY, bv_ct_app, bv_ct_cons, bv_ct_app, h3, List.length_cons, bv_ct0 h2]
    show E.length + 1 = 0 + (1 + (0 + bv_ct Z))
    omega
theorem bv_L_mem {fo : Bool} {E : List Nat} {R : List bv_E} (h : bv_L fo E R) {w : Nat} (hw : w ∈ E) : ∃ e ∈ R, w = bv_F fo e.1 := by
  induction E generalizing R with
  | nil => exact absurd hw (by simp)
  | cons v E ih =>
    obtain ⟨X, e, Y, Z, h1, h2, h3, h4, h5, h6, h7⟩ := h
    rcases List.mem_cons.mp hw with y | y
    · exact ⟨e, by rw [h1]; simp, by rw [y]; exact h4⟩
    · obtain ⟨x, hx, ex⟩ := ih h7 y
      exact ⟨x, by rw [h1]; simp [hx], ex⟩
theorem bv_L_sorted {fo : Bool} {E : List Nat} {R : List bv_E} (h : bv_L fo E R) (hb : ∀ e ∈ R, e.1 < 2401) : E.Pairwise (fun a b => a < b) := by
  induction E generalizing R with
  | nil => exact List.Pairwise.nil
  | cons w E ih =>
    obtain ⟨X, e, Y, Z, h1, h2, h3, h4, h5, h6, h7⟩ := h
    have hbZ : ∀ z ∈ Z, z.1 < 2401 := fun z hz => hb z (by rw [h1]; simp [hz])
    refine List.pairwise_cons.mpr ⟨fun x hx => ?_, ih h7 hbZ⟩
    obtain ⟨z, hz, ez⟩ := bv_L_mem h7 hx
    rw [h4, ez]
    exact bv_F_next (hb e (by rw [h1]; simp)) (h6 z hz) (hbZ z hz)
/-- the letters in turned order -/
def bv_rv (k : Nat) : Nat := ((k / 1 % 7 * 7 + k / 7 % 7) * 7 + k / 49 % 7) * 7 + k / 343 % 7
def bv_lx : Nat → Nat → Nat → Prop
  | 0 => fun _ _ => False
  | m + 1 => fun x y => x % 7 < y % 7 ∨ (x % 7 = y % 7 ∧ bv_lx m (x / 7) (y / 7))
theorem bv_rv_dig (k : Nat) : bv_rv k % 7 = k / 343 % 7 ∧ bv_rv k / 7 % 7 = k / 49 % 7 ∧ bv_rv k / 7 / 7 % 7 = k / 7 % 7 ∧ bv_rv k / 7 / 7 / 7 % 7 = k % 7 := by
  unfold bv_rv
  have h0 : k / 343 % 7 < 7 := Nat.mod_lt _ (by omega)
  have h1 : k / 49 % 7 < 7 := Nat.mod_lt _ (by omega)
  have h2 : k / 7 % 7 < 7 := Nat.mod_lt _ (by omega)
  have h3 : k % 7 < 7 := Nat.mod_lt _ (by omega)
  rw [Nat.div_one]
  generalize k / 343 % 7 = d0 at *
  generalize k / 49 % 7 = d1 at *
  generalize k / 7 % 7 = d2 at *
  generalize k % 7 = d3 at *
  omega
theorem bv_rv_lt (k : Nat) : bv_rv k < 2401 := by
  unfold bv_rv
  have h0 : k / 343 % 7 < 7 := Nat.mod_lt _ (by omega)
  have h1 : k / 49 % 7 < 7 := Nat.mod_lt _ (by omega)
  have h2 : k / 7 % 7 < 7 := Nat.mod_lt _ (by omega)
  have h3 : k / 1 % 7 < 7 := Nat.mod_lt _ (by omega)
  omega
theorem bv_dig (k : Nat) (h : k < 2401) : k = k / 343 % 7 * 343 + k / 49 % 7 * 49 + k / 7 % 7 * 7 + k % 7 := by omega
theorem bv_rv_pos {k : Nat} (h0 : 0 < k) (h : k < 2401) : 0 < bv_rv k := by
  have := bv_dig k h
  unfold bv_rv
  rw [Nat.div_one]
  omega
theorem bv_lex {a b : Nat} (h : a < b) (hb : b < 2401) : bv_lx 4 (bv_rv a) (bv_rv b) := by
  obtain ⟨a0, a1, a2, a3⟩ := bv_rv_dig a
  obtain ⟨b0, b1, b2, b3⟩ := bv_rv_dig b
  show bv_rv a % 7 < bv_rv b % 7 ∨ (bv_rv a % 7 = bv_rv b % 7 ∧ (bv_rv a / 7 % 7 < bv_rv b / 7 % 7 ∨ (bv_rv a / 7 % 7 = bv_rv b / 7 % 7 ∧ (bv_rv a / 7 / 7 % 7 < bv_rv b / 7 / 7 % 7 ∨ (bv_rv a / 7 / 7 % 7 = bv_rv b / 7 / 7 % 7 ∧ (bv_rv a / 7 / 7 / 7 % 7 < bv_rv b / 7 / 7 / 7 % 7 ∨ (bv_rv a / 7 / 7 / 7 % 7 = bv_rv b / 7 / 7 / 7 % 7 ∧ False)))))))
  rw [a0, a1, a2, a3, b0, b1, b2, b3]
  have ea := bv_dig a (by omega)
  have eb := bv_dig b hb
  have h0 : a / 343 % 7 < 7 := Nat.mod_lt _ (by omega)
  have h1 : a / 49 % 7 < 7 := Nat.mod_lt _ (by omega)
  have h2 : a / 7 % 7 < 7 := Nat.mod_lt _ (by omega)
  have h3 : a % 7 < 7 := Nat.mod_lt _ (by omega)
  have g0 : b / 343 % 7 < 7 := Nat.mod_lt _ (by omega)
  have g1 : b / 49 % 7 < 7 := Nat.mod_lt _ (by omega)
  have g2 : b / 7 % 7 < 7 := Nat.mod_lt _ (by omega)
  have g3 : b % 7 < 7 := Nat.mod_lt _ (by omega)
  clear a0 a1 a2 a3 b0 b1 b2 b3
  generalize a / 343 % 7 = p0 at *
  generalize a / 49 % 7 = p1 at *
  generalize a / 7 % 7 = p2 at *
  generalize a % 7 = p3 at *
  generalize b / 343 % 7 = q0 at *
  generalize b / 49 % 7 = q1 at *
  generalize b / 7 % 7 = q2 at *
  generalize b % 7 = q3 at *
  omega
theorem bv_rv0 : bv_rv 0 = 0 := rfl
end
section
theorem bv_unit {post : Int32 → Prop} {p : Nat} {y : Int32} (hp : p < 4) (hy : y = nI p) (h : post (nI (bv_u p))) : wpX_unit post () y := by
  subst hy
  unfold wpX_unit
  match p, hp, h with
  | 0, _, h => exact br_f (by decide) (br_f (by decide) (br_t rfl h))
  | 1, _, h => exact br_f (by decide) (br_f (by decide) (br_f (by decide) (br_t rfl h)))
  | 2, _, h => exact br_f (by decide) (br_f (by decide) (br_f (by decide) (br_f (by decide) (br_t rfl h))))
  | 3, _, h => exact br_f (by decide) (br_t (by decide) h)
theorem bv_digit {post : Int32 → Prop} {k p : Nat} {x y : Int32} (hk : k < 2401) (hp : p < 4) (hx : x = nI k) (hy : y = nI p) (h : post (nI (k / bv_u p % 7))) : wpX_digitAt post () x y := by
  subst hx
  unfold wpX_digitAt
  obtain ⟨u1, u2⟩ := bv_u_pos p
  refine bv_unit hp hy ⟨nI_ne0 u1 (by omega), by decide, ?_⟩
  have hd : k / bv_u p ≤ k := Nat.div_le_self _ _
  rw [pk_div (by omega) u1 (by omega)]
  have e := pk_rem (a := k / bv_u p) (d := 7) (by omega) (by omega) (by omega)
  have e' : nI (k / bv_u p) - nI (k / bv_u p) / 7 * 7 = nI (k / bv_u p % 7) := e
  rw [e']
  exact h
theorem bv_fp_hit {k p : Nat} (hp : p < 4) (h0 : ∀ q, q < p → k / bv_u q % 7 ≠ 6) (h : k / bv_u p % 7 = 6) : bv_fp k = p := by
  unfold bv_fp
  match p, hp, h0, h with
  | 0, _, _, h => exact if_pos h
  | 1, _, h0, h =>
    rw [if_neg (show ¬ k / 343 % 7 = 6 from h0 0 (by omega))]
    exact if_pos h
  | 2, _, h0, h =>
    rw [if_neg (show ¬ k / 343 % 7 = 6 from h0 0 (by omega)), if_neg (show ¬ k / 49 % 7 = 6 from h0 1 (by omega))]
    exact if_pos h
  | 3, _, h0, h =>
    rw [if_neg (show ¬ k / 343 % 7 = 6 from h0 0 (by omega)), if_neg (show ¬ k / 49 % 7 = 6 from h0 1 (by omega)), if_neg (show ¬ k / 7 % 7 = 6 from h0 2 (by omega))]
    exact if_pos h
theorem bv_fp_miss {k : Nat} (h0 : ∀ q, q < 4 → k / bv_u q % 7 ≠ 6) : bv_fp k = 4 := by
  unfold bv_fp
  rw [if_neg (show ¬ k / 343 % 7 = 6 from h0 0 (by omega)), if_neg (show ¬ k / 49 % 7 = 6 from h0 1 (by omega)), if_neg (show ¬ k / 7 % 7 = 6 from h0 2 (by omega))]
  exact if_neg (h0 3 (by omega))
theorem bv_neg2 (x : Int32) : (-1) - ((-1) - x) = x := by grind
theorem bv_neg1 : ∀ n, n < 25 → ¬ (0 : Int32) ≤ (-1) - nI n := by decide
section
variable {ty bu ke ma th : Int32} {a1 a2 a3 a4 a5 a6 a7 a8 a9 a10 : Nat → Int32} {D : List bv_E} {M : Nat}
theorem bv_folder {post : Int32 → Prop} {k : Nat} {x : Int32} (hx : x = nI k) (hk : k < 2401) (h1 : bv_fp k < 4 → post (nI (bv_fp k))) (h2 : bv_fp k = 4 → post (-1)) : wpX_folderPlace post (0, bu, ke, ma, th, a1, a2, a3, a4, a5, a6, a7, a8, a9, a10) x := by
  subst hx
  have key : ∀ n p, p ≤ 4 → 4 - p < n → (∀ q, q < p → k / bv_u q % 7 ≠ 6) → wX_folderPlace_5 post (nI k) 0 bu ke ma th a1 a2 a3 a4 a5 a6 a7 a8 a9 a10 n (nI p) := by
    intro n
    induction n with
    | zero => intro p _ h; exact absurd h (by omega)
    | succ n ih =>
      intro p hp hn h0
      refine pk_le 4 p (fun z => h2 (bv_fp_miss (fun q hq => h0 q (by omega)))) (fun z => bv_digit hk z rfl rfl ?_)
      have hd : k / bv_u p % 7 < 7 := Nat.mod_lt _ (by omega)
      refine pk_eq (k / bv_u p % 7) 6 (fun e => ?_) (fun e => ?_)
      · have := bv_fp_hit z h0 e
        rw [this] at h1
        exact h1 z
      · intro x ex
        rw [nI_1] at ex
        subst ex
        refine ih (p + 1) (by omega) (by omega) (fun q hq => ?_)
        rcases Nat.lt_or_ge q p with y | y
        · exact h0 q y
        · rw [show q = p by omega]
          exact e
  exact ⟨5, key 5 0 (by omega) (by omega) (fun q hq => absurd hq (by omega))⟩
theorem bv_next {post : Int32 → Prop} {A X Y : List bv_E} (hI : bv_I (A ++ (X ++ Y)) M ke ma th a1 a2 a3 a4 a5 a6 a7) (hX : ∀ x ∈ X, bv_p x.2 = 0) (h0 : Y = [] → post (-1)) (h1 : ∀ e Y', Y = e :: Y' → bv_p e.2 = 1 ∧ post (nI (A.length + X.length))) : wpX_nextListed post (0, bu, ke, ma, th, a1, a2, a3, a4, a5, a6, a7, a8, a9, a10) (nI A.length) := by
  have hl := bv_keys24 hI.1
  rw [List.length_append, List.length_append] at hl
  have hke := hI.2.1
  rw [List.length_append, List.length_append] at hke
  have row : ∀ (A' B' : List bv_E) (e : bv_E), A ++ (X ++ Y) = A' ++ e :: B' → e.1 < 2401 ∧ A'.length < 24 ∧ a1 A'.length = nI e.1 ∧ ∃ s, s < 24 ∧ a2 A'.length = nI s ∧ (a6 s = 0 ↔ bv_p e.2 = 1) := by
    intro A' B' e hE
    obtain ⟨k, C⟩ := e
    rw [hE] at hI
    have hC := hI.1.2.1 (k, C) (by simp)
    cases C with
    | nil => exact absurd rfl hC.2.2.1
    | cons v t =>
      obtain ⟨m1, m2, m3, m4, m5, m6, m7, m8, m9⟩ := bv_mid hI
      refine ⟨hC.2.1, m1, m2, v.1, m4, m3, ?_⟩
      rw [m8]
      show v.2.2.2 = 0 ↔ (if v.2.2.2 = 0 then 1 else 0) = 1
      by_cases z : v.2.2.2 = 0
      · rw [if_pos z]
        exact ⟨fun _ => rfl, fun _ => z⟩
      · rw [if_neg z]
        exact ⟨fun q => absurd q z, fun q => absurd q (by omega)⟩
  have key : ∀ (X2 X1 : List bv_E) (n : Nat), X = X1 ++ X2 → X2.length < n → wX_nextListed_7 post 2401 0 bu ke ma th a1 a2 a3 a4 a5 a6 a7 a8 a9 a10 n (nI (A.length + X1.length)) := by
    intro X2
    induction X2 with
    | nil =>
      intro X1 n hX1 hn
      rw [List.append_nil] at hX1
      subst hX1
      obtain ⟨m, rfl⟩ : ∃ m, n = m + 1 := ⟨n - 1, by omega⟩
      cases Y with
      | nil => exact br_t (by rw [hke]; exact nI_le (by simp) (by omega)) (h0 rfl)
      | cons e Y' =>
        rw [List.length_cons] at hl hke
        obtain ⟨r1, r2, r3, s, r4, r5, r6⟩ := row (A ++ X) Y' e (by simp)
        rw [List.length_append] at r2 r3 r5
        obtain ⟨p1, p2⟩ := h1 e Y' rfl
        refine br_f (by rw [hke]; exact nI_ge (by omega) (by omega)) ⟨pk_in (A.length + X.length) 24 (by omega), ?_⟩
        rw [nI_clamp (n := A.length + X.length) (by omega), r3, r5, nI_clamp (n := s) (by omega)]
        exact br_f (nI_ge (b := 2401) r1 (by omega)) ⟨pk_in (A.length + X.length) 24 (by omega), pk_in s 24 r4, br_t (r6.mpr p1) p2⟩
    | cons x X2 ih =>
      intro X1 n hX1 hn
      rw [List.length_cons] at hn
      obtain ⟨m, rfl⟩ : ∃ m, n = m + 1 := ⟨n - 1, by omega⟩
      have hlX : X.length = X1.length + (X2.length + 1) := by rw [hX1, List.length_append, List.length_cons]
      obtain ⟨r1, r2, r3, s, r4, r5, r6⟩ := row (A ++ X1) (X2 ++ Y) x (by rw [hX1]; simp)
      rw [List.length_append] at r2 r3 r5
      have p0 := hX x (by rw [hX1]; simp)
      refine br_f (by rw [hke]; exact nI_ge (by omega) (by omega)) ⟨pk_in (A.length + X1.length) 24 (by omega), ?_⟩
      rw [nI_clamp (n := A.length + X1.length) (by omega), r3, r5, nI_clamp (n := s) (by omega)]
      refine br_f (nI_ge (b := 2401) r1 (by omega)) ⟨pk_in (A.length + X1.length) 24 (by omega), pk_in s 24 r4, br_f (fun z => ?_) ?_⟩
      · have := r6.mp z
        omega
      · intro y ey
        rw [nI_1] at ey
        have := ih (X1 ++ [x]) m (by rw [hX1]; simp) (by omega)
        rw [List.length_append, List.length_singleton] at this
        rw [ey]
        exact this
  unfold wpX_nextListed
  unfold wpX_endOfBuffer
  exact br_t rfl ⟨X.length + 1, key X [] (X.length + 1) rfl (by omega)⟩
theorem bv_findL {post : Int32 → Prop} {x1 x2 : Int32} {fo : Bool} (hfo : x2 = if fo = true then 1 else 0) (hI : bv_I D M ke ma th a1 a2 a3 a4 a5 a6 a7) : ∀ (E : List Nat) (A R : List bv_E) (n c : Nat) (Φ : Int32 → Prop), D = A ++ R → bv_L fo E R → c + E.length ≤ 24 → E.length < n →
    (∀ j w, E[j]? = some w → x1 = nI (c + j) → post (nI w)) → ((∀ j, j < E.length → x1 ≠ nI (c + j)) → post ((-1) - nI (c + E.length))) →
    (∀ r, wX_findEntry_23 post x1 x2 0 bu ke ma th a1 a2 a3 a4 a5 a6 a7 a8 a9 a10 n (nI c) r (nI c) → Φ r) → wpX_nextListed Φ (0, bu, ke, ma, th, a1, a2, a3, a4, a5, a6, a7, a8, a9, a10) (nI A.length) := by
  have hok := hI.1
  have hl := bv_keys24 hok
  have hb : ∀ e ∈ D, e.1 < 2401 := fun e he => (hok.2.1 e he).2.1
  intro E
  induction E with
  | nil =>
    intro A R n c Φ hD hL hc hn hit miss hΦ
    obtain ⟨m, rfl⟩ : ∃ m, n = m + 1 := ⟨n - 1, by omega⟩
    subst hD
    have ms : post ((-1) - nI c) := miss (fun j hj => absurd hj (by simp))
    refine bv_next (X := R) (Y := []) (by rw [List.append_nil]; exact hI) hL (fun _ => hΦ _ (br_c (fun _ => ms) (fun _ => br_t (by decide) ms))) (fun e Y' h => absurd h (by simp))
  | cons w E ih =>
    intro A R n c Φ hD hL hc hn hit miss hΦ
    rw [List.length_cons] at hc hn miss
    obtain ⟨m, rfl⟩ : ∃ m, n = m + 1 := ⟨n - 1, by omega⟩
    obtain ⟨X, e, Y, Z, h1, h2, h3, h4, h5, h6, h7⟩ := hL
    have hD1 : D = A ++ (X ++ e :: (Y ++ Z)) := by rw [hD, h1]
    have hD2 : D = (A ++ X) ++ (e.1, e.2) :: (Y ++ Z) := by rw [hD1]; simp
    have hD3 : D = (A ++ X ++ e :: Y) ++ Z := by rw [hD1]; simp
    have he24 : e.1 < 2401 := hb e (by rw [hD1]; simp)
    have hlD : D.length = A.length + (X.length + (Y.length + Z.length + 1)) := by
      rw [hD1]
      simp only [List.length_append, List.length_cons]
    have hsort := hok.1
    rw [hD2] at hsort
    obtain ⟨o1, o2⟩ := bv_sorted_mid hsort
    have hat := hI.2.2.2.2.1
    rw [hD2] at hat
    have hat2 := (bv_at_app.mp hat).2
    rw [Nat.zero_add, List.length_append] at hat2
    have ha1 : a1 (A.length + X.length) = nI e.1 := hat2.1.1
    have hz := h6
    have cont : x1 ≠ nI c → ∀ y, y = nI (A ++ X ++ e :: Y).length → wX_findEntry_134 post (wX_findEntry_23 post x1 x2 0 bu ke ma th a1 a2 a3 a4 a5 a6 a7 a8 a9 a10 m) x1 x2 (nI (c + 1)) (nI c) y 0 bu ke ma th a1 a2 a3 a4 a5 a6 a7 a8 a9 a10 := by
      intro hne y ey
      subst ey
      unfold wX_findEntry_134
      refine ih (A ++ X ++ e :: Y) Z m (c + 1) _ hD3 h7 (by omega) (by omega) (fun j v hj hx => ?_) (fun hm => ?_) (fun r hr => ?_)
      · refine hit (j + 1) v (by rw [List.getElem?_cons_succ]; exact hj) ?_
        rw [hx, show c + 1 + j = c + (j + 1) by omega]
      · rw [show c + 1 + E.length = c + (E.length + 1) by omega]
        refine miss (fun j hj => ?_)
        cases j with
        | zero => exact hne
        | succ j =>
          rw [show c + (j + 1) = c + 1 + j by omega]
          exact hm j (by omega)
      · intro x ex
        rw [nI_1] at ex
        subst ex
        exact hr
    have f92a : w = e.1 → Y = [] → wX_findEntry_92 post (wX_findEntry_23 post x1 x2 0 bu ke ma th a1 a2 a3 a4 a5 a6 a7 a8 a9 a10 m) x1 x2 (nI c) (nI (A.length + X.length)) (nI c) (-1) (nI e.1) 0 bu ke ma th a1 a2 a3 a4 a5 a6 a7 a8 a9 a10 := by
      intro hw hY
      unfold wX_findEntry_92
      refine br_c (fun g => ?_) (fun g => ?_)
      · rw [← hw]
        exact hit 0 w rfl g.symm
      · intro y3 e3
        rw [nI_1] at e3
        intro y9 e9
        rw [nI_1] at e9
        subst e3
        refine br_t (by decide) (cont (fun q => g q.symm) y9 ?_)
        rw [e9, hY]
        simp only [List.length_append, List.length_cons, List.length_nil]
    have f92b : fo = true → bv_fp e.1 < 4 → wX_findEntry_92 post (wX_findEntry_23 post x1 x2 0 bu ke ma th a1 a2 a3 a4 a5 a6 a7 a8 a9 a10 m) x1 x2 (nI c) (nI (A.length + X.length)) (nI c) (nI (bv_fp e.1)) (nI w) 0 bu ke ma th a1 a2 a3 a4 a5 a6 a7 a8 a9 a10 := by
      intro hf hp
      have hnx : bv_nx fo e.1 = w + bv_u (bv_fp e.1) := by
        rw [h4, hf]
        rfl
      have hwle : w ≤ e.1 := by rw [h4]; exact bv_F_le _ _
      have hu := bv_u_pos (bv_fp e.1)
      unfold wX_findEntry_92
      refine br_c (fun g => hit 0 w rfl g.symm) (fun g => ?_)
      intro y3 e3
      rw [nI_1] at e3
      intro y9 e9
      subst e3
      refine br_f (nI_pos (by omega)) (bv_unit hp rfl ?_)
      intro y10 e10
      rw [nI_add, ← hnx] at e10
      have hke := hI.2.1
      have hat0 := hI.2.2.2.2.1
      rw [hD3] at hke hat0
      refine bv_seekD (A := A ++ X ++ e :: Y) (B := Z) e10 (by omega) hke (by rw [← hD3]; exact hl) hat0 (by rw [← hD3]; exact hb) (fun q hq => ?_) h6 (cont (fun q => g q.symm) _ rfl)
      rcases List.mem_append.mp hq with y | y
      · have := o1 q y
        have := bv_k_nx fo e.1
        omega
      · rcases List.mem_cons.mp y with z | z
        · rw [z]
          exact bv_k_nx fo e.1
        · exact h5 q z
    have hY0 : bv_nx fo e.1 = e.1 + 1 → Y = [] := by
      intro q
      cases Y with
      | nil => rfl
      | cons y Y' =>
        have q1 := h5 y (List.mem_cons_self ..)
        have q2 := o2 y (by simp)
        dsimp only at q2
        omega
    have hin : A.length + X.length < 24 := by omega
    have f54a : w = e.1 → Y = [] → wX_findEntry_54 post (wX_findEntry_23 post x1 x2 0 bu ke ma th a1 a2 a3 a4 a5 a6 a7 a8 a9 a10 m) x1 x2 (nI c) (nI (A.length + X.length)) (nI c) (-1) 0 bu ke ma th a1 a2 a3 a4 a5 a6 a7 a8 a9 a10 := by
      intro hw hY
      have := f92a hw hY
      unfold wX_findEntry_54
      refine br_f (by decide) ⟨pk_in (A.length + X.length) 24 hin, ?_⟩
      rw [nI_clamp (n := A.length + X.length) (by omega), ha1]
      exact this
    refine bv_next (X := X) (Y := e :: (Y ++ Z)) (by rw [← hD1]; exact hI) h2 (fun h => absurd h (by simp)) (fun e' Y' h => ?_)
    have he : e = e' := (List.cons.inj h).1
    refine ⟨by rw [← he]; exact h3, hΦ _ ?_⟩
    refine pk_le 24 c (fun z => absurd z (by omega)) (fun z => br_f (nI_pos (by omega)) ?_)
    cases fo with
    | false =>
      have hx2 : x2 = 0 := hfo
      exact br_t hx2 (f54a h4 (hY0 rfl))
    | true =>
      have hx2 : x2 = 1 := hfo
      refine br_f (by rw [hx2]; decide) ⟨pk_in (A.length + X.length) 24 hin, ?_⟩
      rw [nI_clamp (n := A.length + X.length) (by omega), ha1]
      refine bv_folder rfl he24 (fun hp => ?_) (fun hp => ?_)
      · have hu := bv_u_pos (bv_fp e.1)
        have hw : w = e.1 - e.1 % bv_u (bv_fp e.1) := h4
        have hm : e.1 % bv_u (bv_fp e.1) ≤ e.1 := Nat.mod_le _ _
        unfold wX_findEntry_54
        rw [nI_clamp (n := A.length + X.length) (by omega), ha1]
        refine br_t (nI_pos' (by omega)) ⟨pk_in (A.length + X.length) 24 hin, pk_in (A.length + X.length) 24 hin, bv_unit hp rfl ⟨nI_ne0 hu.1 (by omega), ?_⟩⟩
        rw [pk_rem (by omega) hu.1 (by omega), pk_sub hm, ← hw]
        exact f92b rfl hp
      · have hu : bv_u (bv_fp e.1) = 1 := by rw [hp]; rfl
        have hF : bv_F true e.1 = e.1 := by
          show e.1 - e.1 % bv_u (bv_fp e.1) = e.1
          rw [hu, Nat.mod_one]
          rfl
        refine f54a (by rw [h4, hF]) (hY0 ?_)
        show e.1 - e.1 % bv_u (bv_fp e.1) + bv_u (bv_fp e.1) = e.1 + 1
        rw [hu, Nat.mod_one]
        rfl
theorem bv_findEntry {post : Int32 → Prop} {x1 x2 : Int32} {fo : Bool} {E : List Nat} (hfo : x2 = if fo = true then 1 else 0) (hI : bv_I D M ke ma th a1 a2 a3 a4 a5 a6 a7) (hL : bv_L fo E D) (hit : ∀ j w, E[j]? = some w → x1 = nI j → post (nI w)) (miss : (∀ j, j < E.length → x1 ≠ nI j) → post ((-1) - nI E.length)) : wpX_findEntry post (0, 0, ke, ma, th, a1, a2, a3, a4, a5, a6, a7, a8, a9, a10) x1 x2 := by
  have hok := hI.1
  have hl := bv_keys24 hok
  have h1 := bv_L_len hL
  have h2 := bv_ct_le D
  unfold wpX_findEntry
  refine bv_seekD (A := []) (B := D) (k := 0) rfl (by omega) hI.2.1 hl hI.2.2.2.2.1 (fun e he => (hok.2.1 e he).2.1) (fun e he => absurd he (by simp)) (fun e he => Nat.zero_le _) ?_
  refine bv_findL (post := post) (x1 := x1) (bu := 0) hfo hI E [] D (E.length + 1) 0 _ rfl hL (by omega) (by omega) (fun j w hj hx => hit j w hj (by rw [hx, Nat.zero_add])) (fun hm => ?_) (fun r hr => ⟨E.length + 1, hr⟩)
  rw [Nat.zero_add]
  refine miss (fun j hj => ?_)
  have := hm j hj
  rw [Nat.zero_add] at this
  exact this
theorem bv_list {post : Int32 → Prop} {x2 : Int32} {fo : Bool} {E : List Nat} (hfo : x2 = if fo = true then 1 else 0) (hI : bv_I D M ke ma th a1 a2 a3 a4 a5 a6 a7) (hL : bv_L fo E D) (hp : post (nI E.length)) : wpX_list post (0, 0, ke, ma, th, a1, a2, a3, a4, a5, a6, a7, a8, a9, a10) x2 := by
  have hok := hI.1
  have hl := bv_keys24 hok
  have h1 := bv_L_len hL
  have h2 := bv_ct_le D
  unfold wpX_list
  refine bv_findEntry hfo hI hL (fun j w hj hx => ?_) (fun _ => ?_)
  · have hj' : j < E.length := (List.getElem?_eq_some_iff.mp hj).1
    have := nI_pos (n := j) (by omega)
    rw [← hx] at this
    exact absurd (by decide) this
  · rw [bv_neg2]
    exact hp
theorem bv_entry27 {post : Int32 → Prop} {k : Nat} (hk : k < 2401) (h : post (nI (bv_rv k))) : ∃ n, wX_entry_27 post (nI k) ty bu ke ma th a1 a2 a3 a4 a5 a6 a7 a8 a9 a10 n 0 3 := by
  have step : ∀ (n p c : Nat), p < 4 → wX_entry_27 post (nI k) ty bu ke ma th a1 a2 a3 a4 a5 a6 a7 a8 a9 a10 n (nI (c * 7 + k / bv_u p % 7)) (nI p + (-1)) → wX_entry_27 post (nI k) ty bu ke ma th a1 a2 a3 a4 a5 a6 a7 a8 a9 a10 (n + 1) (nI c) (nI p) := by
    intro n p c hp hw
    refine br_f (nI_pos (by omega)) (bv_digit hk hp rfl rfl ?_)
    intro y ey
    have ey' : y = nI (c * 7 + k / bv_u p % 7) := by
      rw [ey, ← nI_add, ← pk_mul]
      rfl
    intro y5 e5
    rw [ey', e5]
    exact hw
  refine ⟨5, step 4 3 0 (by omega) ?_⟩
  rw [pk_m1]
  refine step 3 2 _ (by omega) ?_
  rw [pk_m1]
  refine step 2 1 _ (by omega) ?_
  rw [pk_m1]
  refine step 1 0 _ (by omega) ?_
  refine br_t (by decide) ?_
  have e : ((((0 * 7 + k / bv_u 3 % 7) * 7 + k / bv_u 2 % 7) * 7 + k / bv_u 1 % 7) * 7 + k / bv_u 0 % 7) = bv_rv k := by
    rw [Nat.zero_mul, Nat.zero_add]
    rfl
  rw [e]
  exact h
theorem bv_entry {post : Int32 → Prop} {x2 : Int32} {fo : Bool} {E : List Nat} {i : Nat} (hfo : x2 = if fo = true then 1 else 0) (hI : bv_I D M ke ma th a1 a2 a3 a4 a5 a6 a7) (hL : bv_L fo E D) (hi : i < 1000) (hit : ∀ w, E[i]? = some w → post (nI (bv_rv w))) (miss : E.length ≤ i → post (-7)) : wpX_entry post (0, 0, ke, ma, th, a1, a2, a3, a4, a5, a6, a7, a8, a9, a10) (nI i) x2 := by
  have hok := hI.1
  have hl := bv_keys24 hok
  have h1 := bv_L_len hL
  have h2 := bv_ct_le D
  unfold wpX_entry
  refine br_t (nI_pos' (by omega)) (bv_findEntry hfo hI hL (fun j w hj hx => ?_) (fun hm => ?_))
  · have hj' : j < E.length := (List.getElem?_eq_some_iff.mp hj).1
    rw [nI_eq (by omega) (by omega)] at hx
    subst hx
    obtain ⟨e, he, ew⟩ := bv_L_mem hL (List.mem_of_getElem? hj)
    have := bv_F_le fo e.1
    have := (hok.2.1 e he).2.1
    exact br_t (nI_pos' (by omega)) (bv_entry27 (by omega) (hit w hj))
  · refine br_f (bv_neg1 _ (by omega)) (miss ?_)
    rcases Nat.lt_or_ge i E.length with y | y
    · exact absurd rfl (hm i y)
    · exact y
end
theorem bv_before {post : Int32 → Prop} {q w : Nat} {x y : Int32} (hx : x = nI (bv_rv q)) (hy : y = nI (bv_rv w)) (h : q < w) (hw : w < 2401) (hp : post 1) : wpL_before post () x y := by
  have key : ∀ (m n c a b : Nat), c + m = 4 → m < n → a < 2401 → b < 2401 → bv_lx m a b → wL_before_7 post n (nI a) (nI b) (nI c) := by
    intro m
    induction m with
    | zero => intro n c a b _ _ _ _ hl; exact absurd hl (fun z => z)
    | succ m ih =>
      intro n c a b hc hn ha hb hl
      obtain ⟨n, rfl⟩ : ∃ m, n = m + 1 := ⟨n - 1, by omega⟩
      have e1 : nI a - nI a / 7 * 7 = nI (a % 7) := pk_rem (d := 7) (by omega) (by omega) (by omega)
      have e2 : nI b - nI b / 7 * 7 = nI (b % 7) := pk_rem (d := 7) (by omega) (by omega) (by omega)
      have e3 : nI a / 7 = nI (a / 7) := pk_div (d := 7) (by omega) (by omega) (by omega)
      have e4 : nI b / 7 = nI (b / 7) := pk_div (d := 7) (by omega) (by omega) (by omega)
      have hl' : a % 7 < b % 7 ∨ (a % 7 = b % 7 ∧ bv_lx m (a / 7) (b / 7)) := hl
      refine pk_le 4 c (fun z => absurd z (by omega)) (fun z => ⟨by decide, by decide, ?_⟩)
      rw [e1, e2]
      refine pk_eq (a % 7) (b % 7) (fun g => ⟨by decide, ?_⟩) (fun g => ⟨by decide, by decide, ?_⟩)
      · intro y1 ey1
        refine ⟨by decide, ?_⟩
        intro y2 ey2
        intro y3 ey3
        rw [e3] at ey1
        rw [e4] at ey2
        rw [nI_1] at ey3
        subst ey1 ey2 ey3
        refine ih n (c + 1) (a / 7) (b / 7) (by omega) (by omega) (by omega) (by omega) ?_
        rcases hl' with k | k
        · omega
        · exact k.2
      · refine pk_le (b % 7) (a % 7) (fun k => ?_) (fun k => hp)
        rcases hl' with k' | k'
        · omega
        · exact absurd k'.1 g
  subst hx hy
  exact ⟨5, key 4 5 0 _ _ rfl (by omega) (bv_rv_lt q) (bv_rv_lt w) (bv_lex h hw)⟩
section
variable {ty bu ke ma th : Int32} {a1 a2 a3 a4 a5 a6 a7 a8 a9 a10 : Nat → Int32} {D : List bv_E} {M : Nat}
theorem bv_listed {post : Int32 → Prop} {x2 : Int32} {fo : Bool} {E : List Nat} (hfo : x2 = if fo = true then 1 else 0) (hI : bv_I D M ke ma th a1 a2 a3 a4 a5 a6 a7) (hL : bv_L fo E D) (hp : post (nI E.length)) : wpL_listed post (0, 0, ke, ma, th, a1, a2, a3, a4, a5, a6, a7, a8, a9, a10) x2 := by
  have hok := hI.1
  have hl := bv_keys24 hok
  have hb : ∀ e ∈ D, e.1 < 2401 := fun e he => (hok.2.1 e he).2.1
  have h1 := bv_L_len hL
  have h2 := bv_ct_le D
  have hs := bv_L_sorted hL hb
  have hE : ∀ w ∈ E, 0 < w ∧ w < 2401 := by
    intro w hw
    obtain ⟨e, he, ew⟩ := bv_L_mem hL hw
    have q1 := bv_F_le fo e.1
    have q2 := hok.2.1 e he
    have q3 := bv_F_pos (fo := fo) q2.1 q2.2.1
    omega
  have tail : ∀ (n i : Nat) (la : Int32), E.length ≤ i → i ≤ 24 → 24 - i < n → wL_listed_11 post x2 (nI E.length) 0 0 ke ma th a1 a2 a3 a4 a5 a6 a7 a8 a9 a10 n la (nI i) := by
    intro n
    induction n with
    | zero => intro i la _ _ h; exact absurd h (by omega)
    | succ n ih =>
      intro i la hi1 hi2 hn
      refine pk_le 24 i (fun _ => hp) (fun z => bv_entry hfo hI hL (by omega) (fun w hw => ?_) (fun _ => ?_))
      · have := (List.getElem?_eq_some_iff.mp hw).1
        exact absurd this (by omega)
      · refine br_t (by decide) ?_
        unfold wL_listed_37
        refine br_t (nI_le hi1 (by omega)) ?_
        unfold wL_listed_48
        refine br_t rfl (br_t (by decide) ?_)
        intro y ey
        rw [nI_1] at ey
        subst ey
        exact ih (i + 1) _ (by omega) (by omega) (by omega)
  have head : ∀ (E2 E1 : List Nat) (n q : Nat), E = E1 ++ E2 → (∀ w ∈ E2, q < w) → 24 - E1.length < n → wL_listed_11 post x2 (nI E.length) 0 0 ke ma th a1 a2 a3 a4 a5 a6 a7 a8 a9 a10 n (nI (bv_rv q)) (nI E1.length) := by
    intro E2
    induction E2 with
    | nil =>
      intro E1 n q hE1 _ hn
      rw [List.append_nil] at hE1
      exact tail n E1.length _ (by rw [hE1]; exact Nat.le_refl _) (by rw [← hE1]; omega) hn
    | cons w E2 ih =>
      intro E1 n q hE1 hq hn
      obtain ⟨n, rfl⟩ : ∃ m, n = m + 1 := ⟨n - 1, by omega⟩
      have hlE : E.length = E1.length + (E2.length + 1) := by rw [hE1, List.length_append, List.length_cons]
      have hwE : w ∈ E := by rw [hE1]; simp
      obtain ⟨w1, w2⟩ := hE w hwE
      have hget : E[E1.length]? = some w := by rw [hE1]; simp
      refine pk_le 24 E1.length (fun z => absurd z (by omega)) (fun z => bv_entry hfo hI hL (by omega) (fun v hv => ?_) (fun z => absurd z (by omega)))
      have ev : v = w := by
        rw [hget] at hv
        exact (Option.some.inj hv).symm
      subst ev
      have hr1 := bv_rv_pos w1 w2
      have hr2 := bv_rv_lt v
      have hgt : ¬ nI (bv_rv v) ≤ 0 := nI_nle hr1 (by omega)
      refine br_f hgt ?_
      unfold wL_listed_37
      refine br_f (nI_ge (by omega) (by omega)) ?_
      unfold wL_listed_48
      refine br_t rfl (br_f hgt (bv_before rfl rfl (hq v (List.mem_cons_self ..)) w2 (br_f (by decide) ?_)))
      intro y ey
      rw [nI_1] at ey
      have hs2 := hs
      rw [hE1] at hs2
      have := ih (E1 ++ [v]) n v (by rw [hE1]; simp) (List.pairwise_cons.mp (List.pairwise_append.mp hs2).2.1).1 (by rw [List.length_append, List.length_singleton]; omega)
      rw [List.length_append, List.length_singleton] at this
      rw [ey]
      exact this
  unfold wpL_listed
  refine bv_list hfo hI hL ⟨25, head E [] 25 0 rfl (fun w hw => (hE w hw).1) (by simp)⟩
end
end
section
def bv_v (t : Nat) : Nat := if t = 0 then 2401 else if t = 1 then 343 else if t = 2 then 49 else if t = 3 then 7 else 1
theorem bv_v_step {t b l : Nat} (ht : t < 4) (hl : l ≤ 5) (h : b + bv_v t ≤ 2401) : b + (l + 1) * bv_u t + bv_v (t + 1) ≤ 2401 ∧ 0 < b + (l + 1) * bv_u t := by
  match t, ht, h with
  | 0, _, h =>
    have h' : b + 2401 ≤ 2401 := h
    show b + (l + 1) * 343 + 343 ≤ 2401 ∧ 0 < b + (l + 1) * 343
    omega
  | 1, _, h =>
    have h' : b + 343 ≤ 2401 := h
    show b + (l + 1) * 49 + 49 ≤ 2401 ∧ 0 < b + (l + 1) * 49
    omega
  | 2, _, h =>
    have h' : b + 49 ≤ 2401 := h
    show b + (l + 1) * 7 + 7 ≤ 2401 ∧ 0 < b + (l + 1) * 7
    omega
  | 3, _, h =>
    have h' : b + 7 ≤ 2401 := h
    show b + (l + 1) * 1 + 1 ≤ 2401 ∧ 0 < b + (l + 1) * 1
    omega
theorem bv_v_pos (t : Nat) : 0 < bv_v t := by
  unfold bv_v
  split
  · omega
  · split
    · omega
    · split
      · omega
      · split <;> omega
theorem bv_letter (x s1 s2 : Int32) : ∃ l, l ≤ 5 ∧ ((x >>> s1) &&& 3) + (((x >>> s2) &&& 1) * 2) = nI l := by
  obtain ⟨a, ha, ea⟩ := pk_andE (x >>> s1) (m := 3) 2 (by decide)
  obtain ⟨b, hb, eb⟩ := pk_andE (x >>> s2) (m := 1) 1 (by decide)
  refine ⟨a + b * 2, by omega, ?_⟩
  rw [ea, eb, ← nI_add, ← pk_mul]
  rfl
theorem bv_lk_mem {k : Nat} {D : List bv_E} (h : bv_lk k D ≠ []) : (k, bv_lk k D) ∈ D := by
  induction D with
  | nil => exact absurd rfl h
  | cons e t ih =>
    by_cases q : e.1 = k
    · have e1 : bv_lk k (e :: t) = e.2 := if_pos q
      rw [e1, ← q]
      exact List.mem_cons_self ..
    · have e1 : bv_lk k (e :: t) = bv_lk k t := if_neg q
      rw [e1] at h ⊢
      exact List.mem_cons_of_mem _ (ih h)
theorem bv_lk_ok {k M : Nat} {D : List bv_E} (h : bv_ok D M) : (bv_lk k D).Pairwise (fun v w => w.2.1 < v.2.1) ∧ (bv_lk k D).length ≤ 24 ∧ ∀ v ∈ bv_lk k D, v ∈ bv_vs D ∧ v.1 < 24 ∧ ¬ v.2.1 < 0 ∧ v.2.1 < nI M := by
  by_cases q : bv_lk k D = []
  · rw [q]
    exact ⟨List.Pairwise.nil, Nat.zero_le _, fun v hv => absurd hv (by simp)⟩
  · have hm := bv_lk_mem q
    have hv : ∀ v ∈ bv_lk k D, v ∈ bv_vs D := fun v hv => bv_vs_mem.mpr ⟨_, hm, hv⟩
    refine ⟨(h.2.1 _ hm).2.2.2, ?_, fun v hv' => ⟨hv v hv', h.2.2.2 v (hv v hv')⟩⟩
    obtain ⟨X, Y, e⟩ := List.append_of_mem hm
    rw [e] at h
    exact bv_chain24 h
theorem bv_va_drop (C : List bv_V) (i : Nat) : bv_va C i = bv_va (C.drop i) 0 := by
  induction i generalizing C with
  | zero => rfl
  | succ i ih =>
    cases C with
    | nil => rfl
    | cons v t => exact ih t
theorem bv_drop1 {C t : List bv_V} {v : bv_V} {i : Nat} (h : C.drop i = v :: t) : C.drop (i + 1) = t := by
  induction i generalizing C with
  | zero =>
    have h' : C = v :: t := h
    rw [h']
    rfl
  | succ i ih =>
    cases C with
    | nil => exact absurd h (by simp)
    | cons w s => exact ih (show s.drop i = v :: t from h)
theorem bv_drop0 {C : List bv_V} {i : Nat} (h : C.drop i = []) : C.drop (i + 1) = [] := by
  rw [List.drop_eq_nil_iff] at h ⊢
  omega
theorem bv_va_cases (C : List bv_V) (j : Nat) : bv_va C j = -7 ∨ ∃ P w Q, C = P ++ w :: Q ∧ bv_va C j = w.2.1 := by
  induction C generalizing j with
  | nil => exact Or.inl rfl
  | cons v t ih =>
    cases j with
    | zero => exact Or.inr ⟨[], v, t, rfl, rfl⟩
    | succ j =>
      rcases ih j with h | ⟨P, w, Q, h1, h2⟩
      · exact Or.inl h
      · exact Or.inr ⟨v :: P, w, Q, by rw [h1]; rfl, h2⟩
section
variable {ty bu ke ma th : Int32} {a1 a2 a3 a4 a5 a6 a7 a8 a9 a10 : Nat → Int32} {D : List bv_E} {M : Nat}
theorem bv_type {post : Int32 → St1 → Prop} {t b l : Nat} (ht : t < 4) (hl : l ≤ 5) (hp : post (nI (t + 1)) (nI (t + 1), nI (b + (l + 1) * bv_u t), ke, ma, th, a1, a2, a3, a4, a5, a6, a7, a8, a9, a10)) : wpX_type post (nI t, nI b, ke, ma, th, a1, a2, a3, a4, a5, a6, a7, a8, a9, a10) (nI l) := by
  unfold wpX_type
  refine br_f (nI_pos (by omega)) (br_t (nI_le (b := 5) hl (by omega)) (br_t (nI_lt (b := 4) ht (by omega)) (bv_unit ht rfl ?_)))
  intro f5 e5
  intro f6 e6
  rw [nI_1, pk_mul, nI_add] at e5
  rw [nI_1] at e6
  subst e5 e6
  exact hp
theorem bv_key {post : Int32 → St1 → Prop} {x : Int32} (hp : ∀ (r : Int32) (k t : Nat), 0 < k → k < 2401 → 1 ≤ t → t ≤ 4 → post r (nI t, nI k, ke, ma, th, a1, a2, a3, a4, a5, a6, a7, a8, a9, a10)) : wpL_key post (ty, bu, ke, ma, th, a1, a2, a3, a4, a5, a6, a7, a8, a9, a10) x := by
  obtain ⟨m, hm, em⟩ := pk_andE x (m := 3) 2 (by decide)
  have key : ∀ (n i t b : Nat) (x3 x4 : Int32), i ≤ 4 → 4 - i < n → t = min i (1 + m) → (0 < t → 0 < b) → b + bv_v t ≤ 2401 → wL_key_18 post x (nI (1 + m)) n x3 x4 (nI i) (nI t) (nI b) ke ma th a1 a2 a3 a4 a5 a6 a7 a8 a9 a10 := by
    intro n
    induction n with
    | zero => intro i t b x3 x4 _ h; exact absurd h (by omega)
    | succ n ih =>
      intro i t b x3 x4 hi hn ht hb hv
      refine pk_le 4 i (fun z => hp _ b t (hb (by omega)) ?_ (by omega) (by omega)) (fun z => ?_)
      · have := bv_v_pos t
        omega
      · intro l el
        obtain ⟨l', hl', e'⟩ := bv_letter x ((2 + (2 * nI i)) &&& 31) ((10 + nI i) &&& 31)
        rw [e'] at el
        subst el
        refine pk_le (1 + m) i (fun y => ?_) (fun y => ?_)
        · intro x5 e5
          rw [nI_1] at e5
          subst e5
          exact ih (i + 1) t b _ _ (by omega) (by omega) (by omega) hb hv
        · obtain ⟨s1, s2⟩ := bv_v_step (t := t) (b := b) (by omega) hl' hv
          refine bv_type (by omega) hl' ?_
          intro y3 _
          intro y4 _
          intro y5 e5
          rw [nI_1] at e5
          subst e5
          exact ih (i + 1) (t + 1) _ _ _ (by omega) (by omega) (by omega) (fun _ => s2) s1
  unfold wpL_key
  intro x2 e2
  rw [em] at e2
  have e2' : x2 = nI (1 + m) := by
    rw [e2, ← nI_add]
    rfl
  subst e2'
  unfold wpX_erase
  exact ⟨5, key 5 0 0 0 0 1 (by omega) (by omega) (by omega) (fun h => absurd h (by omega)) (by show 0 + 2401 ≤ 2401; omega)⟩
theorem bv_falls {post : Int32 → Prop} {k : Nat} (hI : bv_I D M ke ma th a1 a2 a3 a4 a5 a6 a7) (hbu : bu = nI k) (hk : k < 2401) (hM : M < 1000) (hp : post 1) : wpL_falls post (ty, bu, ke, ma, th, a1, a2, a3, a4, a5, a6, a7, a8, a9, a10) := by
  obtain ⟨c1, c2, c3⟩ := bv_lk_ok (k := k) hI.1
  have key : ∀ (n i : Nat) (la : Int32), i ≤ 24 → 24 - i < n → (∀ v ∈ (bv_lk k D).drop i, v.2.1 < la ∧ 0 ≤ la) → wL_falls_5 post ty bu ke ma th a1 a2 a3 a4 a5 a6 a7 a8 a9 a10 n la (nI i) := by
    intro n
    induction n with
    | zero => intro i la _ h; exact absurd h (by omega)
    | succ n ih =>
      intro i la hi hn h
      refine pk_le 24 i (fun _ => hp) (fun z => bv_versionAt hI hbu hk rfl (by omega) ?_)
      rw [bv_va_drop]
      cases hd : (bv_lk k D).drop i with
      | nil =>
        refine br_t (by decide) ?_
        intro x ex
        rw [nI_1] at ex
        subst ex
        refine ih (i + 1) _ (by omega) (by omega) ?_
        rw [bv_drop0 hd]
        exact fun v hv => absurd hv (by simp)
      | cons v t =>
        rw [hd] at h
        have hs : (v :: t).Pairwise (fun v w => w.2.1 < v.2.1) := by
          rw [← hd]
          exact List.Pairwise.sublist (List.drop_sublist ..) c1
        have hv : v ∈ bv_lk k D := List.mem_of_mem_drop (by rw [hd]; exact List.mem_cons_self ..)
        obtain ⟨h1, h2⟩ := h v (List.mem_cons_self ..)
        refine br_f (c3 v hv).2.2.1 (br_f (Int32.not_le.mpr h1) (br_t h2 ?_))
        intro x ex
        rw [nI_1] at ex
        subst ex
        refine ih (i + 1) _ (by omega) (by omega) ?_
        rw [bv_drop1 hd]
        exact fun w hw => ⟨(List.pairwise_cons.mp hs).1 w hw, Int32.not_lt.mp (c3 v hv).2.2.1⟩
  refine ⟨25, key 25 0 1000000 (by omega) (by omega) (fun v hv => ⟨?_, by decide⟩)⟩
  exact Int32.lt_trans (c3 v (List.mem_of_mem_drop hv)).2.2.2 (nI_lt (b := 1000000) (by omega) (by omega))
theorem bv_destroyK {post : Int32 → St1 → Prop} {k : Nat} {P Q : List bv_V} {w : bv_V} {y : Int32} (hI : bv_I D M ke ma th a1 a2 a3 a4 a5 a6 a7) (hC : bv_lk k D = P ++ w :: Q) (hy : y = w.2.1)
    (hp : ∀ (D' : List bv_E) (r ke' th' : Int32) (a1' a2' a3' a7' : Nat → Int32), bv_I D' M ke' ma th' a1' a2' a3' a4 a5 a6 a7' → bv_lk k D' = P ++ Q → bv_ct D' + bv_p (P ++ w :: Q) = bv_ct D + bv_p (P ++ Q) → post r (ty, bu, ke', ma, th', a1', a2', a3', a4, a5, a6, a7', a8, a9, a10)) : wpX_destroy post (ty, bu, ke, ma, th, a1, a2, a3, a4, a5, a6, a7, a8, a9, a10) y := by
  obtain ⟨A, B, hA, hB, hD⟩ := bv_around k hI.1
  rw [hC] at hD
  have hD' : D = A ++ (k, P ++ w :: Q) :: B := by
    rw [hD]
    exact bv_put_ne (by simp)
  have hct : bv_ct D = bv_ct A + bv_p (P ++ w :: Q) + bv_ct B := by
    rw [hD]
    exact bv_ct_put ..
  have hI' := hI
  rw [hD'] at hI'
  refine bv_destroy_in hI' hy (fun r ke' th' a1' a2' a3' a7' h => hp (bv_put A k (P ++ Q) B) r ke' th' a1' a2' a3' a7' h (bv_lk_put _ hA hB) ?_)
  rw [bv_ct_put, hct]
  omega
theorem bv_addK {post : Int32 → St1 → Prop} {k : Nat} {c m : Int32} (hI : bv_I D M ke ma th a1 a2 a3 a4 a5 a6 a7) (hbu : bu = nI k) (hk0 : 0 < k) (hk : k < 2401) (hM : M < 1000) (hm : vp_nar .boolean m = m) (hlt : (bv_vs D).length < 24)
    (hp : ∀ (s : Nat) (D' : List bv_E) (ke' ma' th' : Int32) (a1' a2' a3' a4' a5' a6' a7' : Nat → Int32), bv_I D' (M + 1) ke' ma' th' a1' a2' a3' a4' a5' a6' a7' → bv_lk k D' = (s, nI M, c, m) :: bv_lk k D → bv_ct D' + bv_p (bv_lk k D) = bv_ct D + bv_p ((s, nI M, c, m) :: bv_lk k D) → post (nI M) (ty, bu, ke', ma', th', a1', a2', a3', a4', a5', a6', a7', a8, a9, a10)) : wpX_addVersion post (ty, bu, ke, ma, th, a1, a2, a3, a4, a5, a6, a7, a8, a9, a10) bu c m := by
  obtain ⟨A, B, hA, hB, hD⟩ := bv_around k hI.1
  generalize bv_lk k D = C at hD hp
  subst hD
  refine bv_addVersion hI hA hB hk0 hk hM hm hlt hbu (fun s ke' ma' th' a1' a2' a3' a4' a5' a6' a7' h => hp s _ ke' ma' th' a1' a2' a3' a4' a5' a6' a7' h ?_ ?_)
  · exact bv_lk_put ((s, nI M, c, m) :: C) hA hB
  · rw [bv_ct_put, bv_ct_app, bv_ct_cons]
    dsimp only
    omega
theorem bv_th {A' B' : Prop} (hI : bv_I D M ke ma th a1 a2 a3 a4 a5 a6 a7) (f : (bv_vs D).length < 24 → A') (g : B') : (th < 24 → A') ∧ (¬ th < 24 → B') := by
  have h1 := bv_len24 hI.1
  have h2 := hI.2.2.2.1
  exact pk_lt (bv_vs D).length 24 f (fun _ => g) h2
theorem bv_putK {post : Int32 → St1 → Prop} {k t : Nat} {c : Int32} (hI : bv_I D M ke ma th a1 a2 a3 a4 a5 a6 a7) (hbu : bu = nI k) (hty : ty = nI t) (ht0 : 0 < t) (ht : t ≤ 4) (hk0 : 0 < k) (hk : k < 2401) (hM : M < 1000) (hf : post (-2) (ty, bu, ke, ma, th, a1, a2, a3, a4, a5, a6, a7, a8, a9, a10))
    (hp : ∀ (s : Nat) (D' : List bv_E) (ke' ma' th' : Int32) (a1' a2' a3' a4' a5' a6' a7' : Nat → Int32), bv_I D' (M + 1) ke' ma' th' a1' a2' a3' a4' a5' a6' a7' → bv_lk k D' = (s, nI M, c, 0) :: bv_lk k D → bv_ct D' + bv_p (bv_lk k D) = bv_ct D + 1 → post (nI M) (ty, bu, ke', ma', th', a1', a2', a3', a4', a5', a6', a7', a8, a9, a10)) : wpX_put post (ty, bu, ke, ma, th, a1, a2, a3, a4, a5, a6, a7, a8, a9, a10) c := by
  unfold wpX_put
  refine br_f (by rw [hty]; exact nI_ne0 ht0 (by omega)) (bv_th hI (fun hlt => ?_) hf)
  exact bv_addK hI hbu hk0 hk hM rfl hlt (fun s D' ke' ma' th' a1' a2' a3' a4' a5' a6' a7' h1 h2 h3 => hp s D' ke' ma' th' a1' a2' a3' a4' a5' a6' a7' h1 h2 h3)
theorem bv_removeK {post : Int32 → St1 → Prop} {k t : Nat} (hI : bv_I D M ke ma th a1 a2 a3 a4 a5 a6 a7) (hbu : bu = nI k) (hty : ty = nI t) (ht0 : 0 < t) (ht : t ≤ 4) (hk0 : 0 < k) (hk : k < 2401) (hM : M < 1000) (hn : post (-3) (ty, bu, ke, ma, th, a1, a2, a3, a4, a5, a6, a7, a8, a9, a10)) (hf : post (-2) (ty, bu, ke, ma, th, a1, a2, a3, a4, a5, a6, a7, a8, a9, a10))
    (hp : ∀ (s : Nat) (D' : List bv_E) (ke' ma' th' : Int32) (a1' a2' a3' a4' a5' a6' a7' : Nat → Int32), bv_p (bv_lk k D) = 1 → bv_I D' (M + 1) ke' ma' th' a1' a2' a3' a4' a5' a6' a7' → bv_lk k D' = (s, nI M, 0, 1) :: bv_lk k D → bv_ct D' + 1 = bv_ct D → post (nI M) (ty, bu, ke', ma', th', a1', a2', a3', a4', a5', a6', a7', a8, a9, a10)) : wpX_remove post (ty, bu, ke, ma, th, a1, a2, a3, a4, a5, a6, a7, a8, a9, a10) := by
  obtain ⟨A, B, hA, hB, hD⟩ := bv_around k hI.1
  have hI' := hI
  rw [hD] at hI'
  have hty0 : ¬ ty = 0 := by rw [hty]; exact nI_ne0 ht0 (by omega)
  unfold wpX_remove
  refine bv_place hI' hA hB hbu hk (fun e => br_f hty0 ?_) (fun e => br_f hty0 ?_)
  · unfold wpX_isPresent
    exact br_t (by decide) (br_t rfl hn)
  · have hp1 := bv_p_le (bv_lk k D)
    cases hC : bv_lk k D with
    | nil => exact absurd hC e
    | cons v t =>
      rw [hC] at hI' hp1
      refine bv_isPresent (show bv_I (A ++ (k, v :: t) :: B) M ke ma th a1 a2 a3 a4 a5 a6 a7 from hI') ?_
      refine pk_eq (bv_p (v :: t)) 0 (fun _ => hn) (fun z => bv_th hI (fun hlt => ?_) hf)
      refine bv_addK hI hbu hk0 hk hM rfl hlt (fun s D' ke' ma' th' a1' a2' a3' a4' a5' a6' a7' h1 h2 h3 => hp s D' ke' ma' th' a1' a2' a3' a4' a5' a6' a7' ?_ h1 h2 ?_)
      · rw [hC]
        omega
      · rw [hC] at h3
        have : bv_p ((s, nI M, 0, 1) :: v :: t) = 0 := rfl
        omega
end
end
section
section
variable {ty bu ke ma th : Int32} {a1 a2 a3 a4 a5 a6 a7 a8 a9 a10 : Nat → Int32} {D : List bv_E} {M : Nat}
theorem bv_tail {post : Int32 → Prop} {L : Nat} {xs : Nat → Int32} {J : Int32 → Int32 → Int32 → Int32 → Int32 → Int32 → Int32 → (Nat → Int32) → (Nat → Int32) → (Nat → Int32) → (Nat → Int32) → (Nat → Int32) → (Nat → Int32) → (Nat → Int32) → (Nat → Int32) → (Nat → Int32) → (Nat → Int32) → Prop} {x2 x3 : Int32} {kc ks k : Nat} (hI : bv_I D M ke ma th a1 a2 a3 a4 a5 a6 a7) (hbu : bu = nI k) (hk : k < 2401) (hM : M < 1000) (hx2 : x2 = nI (bv_ct D)) (hJ : J x2 (x3 + 2) 0 0 ke ma th a1 a2 a3 a4 a5 a6 a7 a8 a9 a10) : wL_law_409 post L xs J x2 x3 kc ks ty bu ke ma th a1 a2 a3 a4 a5 a6 a7 a8 a9 a10 := by
  obtain ⟨E0, h0⟩ := bv_L_ex false (D.length + 1) D (by omega) hI.1.1
  obtain ⟨E1, h1⟩ := bv_L_ex true (D.length + 1) D (by omega) hI.1.1
  have l0 := bv_L_len0 h0 hI.1.1
  have l1 := bv_L_len h1
  have l2 := bv_ct_le D
  have l3 := bv_keys24 hI.1
  unfold wL_law_409
  refine bv_falls hI hbu hk hM (br_f (by decide) ?_)
  unfold wpX_erase
  refine bv_listed (fo := false) rfl hI h0 ?_
  refine bv_listed (fo := true) rfl hI h1 ?_
  refine br_t (by rw [l0, hx2]) (br_f (nI_pos (by omega)) (br_t (nI_le (by omega) (by omega)) ?_))
  intro y ey
  subst ey
  exact hJ
end
theorem bv_cu_cases {C : List bv_V} (h : C.length ≤ 24) : bv_e1 25 C = C ∨ ∃ v, C = [v] ∧ v.2.2.2 ≠ 0 ∧ bv_e1 25 C = [] := by
  unfold bv_e1
  rw [List.take_of_length_le (by omega)]
  match C with
  | [] => exact Or.inl rfl
  | [v] =>
    by_cases z : v.2.2.2 = 0
    · exact Or.inl (if_pos z)
    · exact Or.inr ⟨v, rfl, z, if_neg z⟩
  | v :: w :: t => exact Or.inl rfl
theorem bv_law {L kc ks : Nat} {xs : Nat → Int32} (hL : L ≤ 260) : ∀ (n t : Nat) (D : List bv_E) (M : Nat) (ty bu ke ma th : Int32) (a1 a2 a3 a4 a5 a6 a7 a8 a9 a10 : Nat → Int32), bv_I D M ke ma th a1 a2 a3 a4 a5 a6 a7 → M ≤ t → t ≤ 40 → 40 - t < n → wL_law_12 (fun r => r = 1) L xs kc ks n (nI (bv_ct D)) (nI (2 * t)) ty bu ke ma th a1 a2 a3 a4 a5 a6 a7 a8 a9 a10 := by
  intro n
  induction n with
  | zero => intro t D M ty bu ke ma th a1 a2 a3 a4 a5 a6 a7 a8 a9 a10 _ _ _ h; exact absurd h (by omega)
  | succ n ih =>
    intro t D M ty bu ke ma th a1 a2 a3 a4 a5 a6 a7 a8 a9 a10 hI hMt ht hn
    refine pk_le L (2 * t + 1) (fun _ => rfl) (fun z => ?_) rfl (nI_1 _)
    refine pk_le 80 (2 * t) (fun _ => rfl) (fun z2 => ⟨pk_in (2 * t) L (by omega), ?_⟩)
    intro kd ekd
    obtain ⟨q, hq, eq⟩ := pk_andE (xs (nI (2 * t)).toNatClampNeg) (m := 15) 4 (by decide)
    rw [eq] at ekd
    subst ekd
    refine ⟨pk_in (2 * t + 1) L (by omega) (nI_1 _), ?_⟩
    intro x ex
    clear ex eq
    refine bv_key (fun r k tt hk0 hk ht1 ht4 => ?_)
    have hM : M < 1000 := by omega
    have hctD := bv_ct_le D
    have hlD := bv_keys24 hI.1
    have hpC := bv_p_le (bv_lk k D)
    have fin : ∀ (D' : List bv_E) (M' : Nat) (z ke ma th : Int32) (a1 a2 a3 a4 a5 a6 a7 : Nat → Int32), bv_I D' M' ke ma th a1 a2 a3 a4 a5 a6 a7 → M' ≤ t + 1 → z = nI (bv_ct D') → wL_law_409 (fun r => r = 1) L xs (wL_law_12 (fun r => r = 1) L xs kc ks n) z (nI (2 * t)) kc ks (nI tt) (nI k) ke ma th a1 a2 a3 a4 a5 a6 a7 a8 a9 a10 := by
      intro D' M' z ke ma th a1 a2 a3 a4 a5 a6 a7 hI' hM' hz
      refine bv_tail hI' rfl hk (by omega) hz ?_
      have e : nI (2 * t) + 2 = nI (2 * (t + 1)) := nI_add (2 * t) 2
      rw [e, hz]
      exact ih (t + 1) D' M' _ _ _ _ _ _ _ _ _ _ _ _ _ _ _ hI' hM' (by omega) (by omega)
    refine bv_present hI rfl hk (bv_get hI rfl hk ?_)
    refine pk_le 8 q (fun z8 => ?_) (fun z8 => ?_)
    · refine pk_le 11 q (fun z11 => ?_) (fun z11 => ?_)
      · refine pk_le 13 q (fun z13 => ?_) (fun z13 => ?_)
        · refine pk_eq q 13 (fun e13 => ?_) (fun e13 => ?_)
          · -- expire 24
            refine bv_versionAt (i := 0) hI rfl hk rfl (by omega) (bv_versionAt (i := 1) hI rfl hk rfl (by omega) (bv_versionAt (i := 2) hI rfl hk rfl (by omega) ?_))
            refine bv_expire (st := 24) hI rfl (by omega) (fun r' ke' th' a1' a2' a3' a7' hJ => ?_)
            have hlk := bv_ex_lk (st := 24 + 1) (k := k) hI.1.1
            have hct := bv_ex_ct 24 D
            refine bv_present hJ rfl hk ?_
            rw [hlk, bv_e1_p]
            refine br_t rfl (bv_get hJ rfl hk ?_)
            rw [hlk, bv_e1_g]
            refine br_t rfl (bv_versionAt (i := 0) hJ rfl hk rfl (by omega) ?_)
            have f352 : wL_law_352 (fun r => r = 1) L xs (wL_law_12 (fun r => r = 1) L xs kc ks n) (nI (bv_ct D)) (nI (2 * t)) (bv_va (bv_lk k D) 1) (bv_va (bv_lk k D) 2) kc ks (nI tt) (nI k) ke' ma th' a1' a2' a3' a4 a5 a6 a7' a8 a9 a10 := by
              unfold wL_law_352
              refine bv_versionAt (i := 1) hJ rfl hk rfl (by omega) (br_t ?_ (bv_versionAt (i := 2) hJ rfl hk rfl (by omega) (br_t ?_ (fin _ M _ _ _ _ _ _ _ _ _ _ _ hJ (by omega) (by rw [hct])))))
              · rw [hlk]
                rcases bv_cu_cases (bv_lk_ok (k := k) hI.1).2.1 with y | ⟨v, y1, _, y2⟩
                · rw [y]
                · rw [y2, y1]
                  rfl
              · rw [hlk]
                rcases bv_cu_cases (bv_lk_ok (k := k) hI.1).2.1 with y | ⟨v, y1, _, y2⟩
                · rw [y]
                · rw [y2, y1]
                  rfl
            rcases bv_cu_cases (bv_lk_ok (k := k) hI.1).2.1 with y | ⟨v, y1, y3, y2⟩
            · exact br_t (by rw [hlk, y]) f352
            · have p0 : bv_p (bv_lk k D) = 0 := by
                rw [y1]
                exact if_neg y3
              have v1 : bv_va (bv_lk k D) 1 = -7 := by
                rw [y1]
                rfl
              exact br_c (fun _ => f352) (fun _ => br_t (by rw [p0]; rfl) (br_f (by rw [v1]; decide) f352))
          · -- expire 0 .. 3
            obtain ⟨j, hj, ej⟩ := pk_andE (x >>> ((14 : Int32) &&& 31)) (m := 3) 2 (by decide)
            refine bv_expire (st := j) hI ej (by omega) (fun r' ke' th' a1' a2' a3' a7' hJ => ?_)
            have hlk := bv_ex_lk (st := j + 1) (k := k) hI.1.1
            have hct := bv_ex_ct j D
            refine bv_present hJ rfl hk ?_
            rw [hlk, bv_e1_p]
            refine br_t rfl (bv_get hJ rfl hk ?_)
            rw [hlk, bv_e1_g]
            exact br_t rfl (fin _ M _ _ _ _ _ _ _ _ _ _ _ hJ (by omega) (by rw [hct]))
        · -- destroy
          obtain ⟨j, hj, ej⟩ := pk_andE (x >>> ((14 : Int32) &&& 31)) (m := 1) 1 (by decide)
          refine bv_versionAt (i := j) hI rfl hk ej (by omega) ?_
          rcases bv_va_cases (bv_lk k D) j with hv | ⟨P, w, Q, hC, hv⟩
          · rw [hv]
            refine bv_destroy_out hI (fun v hv' e => ?_) ?_
            · have := (hI.1.2.2.2 v hv').2.1
              rw [e] at this
              exact this (by decide)
            · refine bv_present hI rfl hk (br_t rfl ?_)
              unfold wL_law_275
              exact fin D M _ _ _ _ _ _ _ _ _ _ _ hI (by omega) rfl
          · refine bv_destroyK hI hC hv (fun D' r' ke' th' a1' a2' a3' a7' hJ hlk hct => ?_)
            refine bv_present hJ rfl hk ?_
            rw [hlk]
            rw [hC] at hpC ⊢
            have hpC' := bv_p_le (P ++ Q)
            refine pk_eq (bv_p (P ++ w :: Q)) (bv_p (P ++ Q)) (fun g => ?_) (fun g => pk_eq (bv_p (P ++ Q)) 0 (fun g2 => ?_) (fun g2 => ?_))
            · unfold wL_law_275
              exact fin D' M _ _ _ _ _ _ _ _ _ _ _ hJ (by omega) (by rw [show bv_ct D = bv_ct D' by omega])
            · unfold wL_law_275
              exact fin D' M _ _ _ _ _ _ _ _ _ _ _ hJ (by omega) (by rw [show bv_ct D = bv_ct D' + 1 by omega, nI_pred])
            · unfold wL_law_275
              exact fin D' M _ _ _ _ _ _ _ _ _ _ _ hJ (by omega) (by rw [nI_1, show bv_ct D + 1 = bv_ct D' by omega])
      · -- remove
        refine bv_removeK hI rfl rfl (by omega) ht4 hk0 hk hM ?_ ?_ (fun s D' ke' ma' th' a1' a2' a3' a4' a5' a6' a7' hp1 hJ hlk hct => ?_)
        · refine br_t (by decide) ?_
          unfold wL_law_214
          exact fin D M _ _ _ _ _ _ _ _ _ _ _ hI (by omega) rfl
        · refine br_t (by decide) ?_
          unfold wL_law_214
          exact fin D M _ _ _ _ _ _ _ _ _ _ _ hI (by omega) rfl
        · refine br_f (nI_pos (by omega)) (bv_present hJ rfl hk ?_)
          rw [hlk]
          refine br_t rfl (bv_get hJ rfl hk ?_)
          rw [hlk]
          refine br_t rfl (bv_versionAt (i := 0) hJ rfl hk rfl (by omega) ?_)
          rw [hlk]
          refine br_t rfl (pk_eq q 8 (fun e8 => ?_) (fun e8 => ?_))
          · refine bv_destroyK (P := []) hJ hlk rfl (fun D2 r' ke2 th2 b1 b2 b3 b7 hK hlk2 hct2 => ?_)
            have hlk3 : bv_lk k D2 = bv_lk k D := hlk2
            have hct3 : bv_ct D2 + 0 = bv_ct D' + bv_p (bv_lk k D) := hct2
            refine bv_present hK rfl hk ?_
            rw [hlk3, hp1]
            refine br_f (by decide) (bv_get hK rfl hk ?_)
            rw [hlk3]
            refine br_t rfl ?_
            unfold wL_law_214
            exact fin D2 (M + 1) _ _ _ _ _ _ _ _ _ _ _ hK (by omega) (by rw [show bv_ct D = bv_ct D2 by omega])
          · intro y ey
            rw [show bv_ct D = bv_ct D' + 1 by omega, pk_m1] at ey
            unfold wL_law_214
            exact fin D' (M + 1) _ _ _ _ _ _ _ _ _ _ _ hJ (by omega) ey
    · -- put
      refine bv_putK hI rfl rfl (by omega) ht4 hk0 hk hM ?_ (fun s D' ke' ma' th' a1' a2' a3' a4' a5' a6' a7' hJ hlk hct => ?_)
      · refine br_t (by decide) ?_
        unfold wL_law_94
        unfold wL_law_95
        refine br_t (by decide) ?_
        unfold wL_law_132
        exact fin D M _ _ _ _ _ _ _ _ _ _ _ hI (by omega) rfl
      · have f95 : ∀ z, z = nI (bv_ct D') → wL_law_95 (fun r => r = 1) L xs (wL_law_12 (fun r => r = 1) L xs kc ks n) (nI (2 * t)) x (nI M) z kc ks (nI tt) (nI k) ke' ma' th' a1' a2' a3' a4' a5' a6' a7' a8 a9 a10 := by
          intro z hz
          unfold wL_law_95
          refine br_f (nI_pos (by omega)) (bv_present hJ rfl hk ?_)
          rw [hlk]
          refine br_f (show ¬ nI 1 = 0 by decide) (bv_get hJ rfl hk ?_)
          rw [hlk]
          refine br_t rfl (bv_versionAt (i := 0) hJ rfl hk rfl (by omega) ?_)
          rw [hlk]
          refine br_t rfl ?_
          unfold wL_law_132
          exact fin D' (M + 1) _ _ _ _ _ _ _ _ _ _ _ hJ (by omega) hz
        refine br_f (nI_pos (by omega)) (pk_eq (bv_p (bv_lk k D)) 0 (fun g => f95 _ ?_) (fun g => ?_))
        · rw [nI_1, show bv_ct D + 1 = bv_ct D' by omega]
        · unfold wL_law_94
          exact f95 _ (by rw [show bv_ct D = bv_ct D' by omega])
theorem i_vc (xs : Nat → Int32) (L : Nat) (hL : L ≤ 260) : wpL_law (fun r => r = 1) L xs := by
  refine ⟨10, 198, by omega, by omega, ?_⟩
  unfold wpX_init
  refine ⟨by omega, by omega, by omega, by omega, by omega, by omega, by omega, by omega, by omega, by omega, by omega, by omega, by omega, by omega, by omega, by omega, by omega, by omega, by omega, by omega, ?_⟩
  refine ⟨41, bv_law hL 41 0 [] 0 _ _ _ _ _ _ _ _ _ _ _ _ _ _ _ ⟨⟨List.Pairwise.nil, ?_, List.Pairwise.nil, ?_⟩, rfl, rfl, rfl, trivial, ?_, ?_⟩ (by omega) (by omega) (by omega)⟩
  · exact fun e he => absurd he (by simp)
  · exact fun e he => absurd he (by simp [bv_vs_nil])
  · exact fun e he => absurd he (by simp [bv_vs_nil])
  · exact fun _ _ _ => rfl
end
