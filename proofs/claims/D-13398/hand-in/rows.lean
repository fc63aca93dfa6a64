section
/-! ===== lists by places ===== -/
theorem fw_gm {α : Type} {R : List α} {d : α} {i : Nat} (h : i < R.length) : R.getD i d ∈ R := by
  rw [List.getD_eq_getElem?_getD, List.getElem?_eq_getElem h]
  exact List.getElem_mem h
theorem fw_mg {α : Type} {R : List α} (d : α) {x : α} (h : x ∈ R) : ∃ i, i < R.length ∧ R.getD i d = x := by
  obtain ⟨i, hi, e⟩ := List.mem_iff_getElem.mp h
  refine ⟨i, hi, ?_⟩
  rw [List.getD_eq_getElem?_getD, List.getElem?_eq_getElem hi]
  exact e
theorem fw_al {α : Type} {R S : List α} {d : α} {i : Nat} (h : i < R.length) : (R ++ S).getD i d = R.getD i d := by
  rw [List.getD_eq_getElem?_getD, List.getD_eq_getElem?_getD, List.getElem?_append_left h]
theorem fw_ar {α : Type} {R : List α} {d x : α} {S : List α} : (R ++ x :: S).getD R.length d = x := by
  rw [List.getD_eq_getElem?_getD, List.getElem?_append_right (Nat.le_refl _), Nat.sub_self]
  rfl
theorem fw_dr {α : Type} {R : List α} {d : α} {i : Nat} (h : i < R.length) : R.drop i = R.getD i d :: R.drop (i + 1) := by
  rw [List.getD_eq_getElem?_getD, List.getElem?_eq_getElem h]
  exact List.drop_eq_getElem_cons h
/-! ===== lines as bytes, walks ===== -/
def fw_lf (b : Nat) : Nat := b % 4
def fw_lt (b : Nat) : Nat := b / 4 % 4
def fw_lp (b : Nat) : Nat := b / 16 % 4
def fw_lq (b : Nat) : Nat := b / 64 % 4
/-- a walk of so many lines from place l to place m, its sums p and q -/
def fw_W (B : List Nat) : Nat → Nat → Nat → Nat → Nat → Prop
  | 0, l, m, p, q => l = m ∧ p = 0 ∧ q = 0
  | k + 1, l, m, p, q => ∃ i p' q', i < B.length ∧ fw_lt (B.getD i 0) = m ∧ fw_W B k l (fw_lf (B.getD i 0)) p' q' ∧ p = p' + fw_lp (B.getD i 0) ∧ q = q' + fw_lq (B.getD i 0)
theorem fw_W_bd (B : List Nat) : ∀ (j l m p q : Nat), fw_W B j l m p q → p ≤ 3 * j ∧ q ≤ 3 * j := by
  intro j
  induction j with
  | zero =>
    intro l m p q h
    obtain ⟨_, h1, h2⟩ := h
    omega
  | succ j ih =>
    intro l m p q h
    obtain ⟨i, p', q', _, _, h3, h4, h5⟩ := h
    have t := ih _ _ _ _ h3
    have u1 : fw_lp (B.getD i 0) ≤ 3 := by unfold fw_lp; omega
    have u2 : fw_lq (B.getD i 0) ≤ 3 := by unfold fw_lq; omega
    omega
/-- every line runs between places below 3 -/
def fw_LB (B : List Nat) : Prop := ∀ i, i < B.length → B.getD i 0 < 256 ∧ fw_lf (B.getD i 0) < 3 ∧ fw_lt (B.getD i 0) < 3
theorem fw_W_pl {B : List Nat} (hB : fw_LB B) : ∀ (j l m p q : Nat), fw_W B j l m p q → l = m ∨ (l < 3 ∧ m < 3) := by
  intro j
  induction j with
  | zero =>
    intro l m p q h
    exact Or.inl h.1
  | succ j ih =>
    intro l m p q h
    obtain ⟨i, p', q', h1, h2, h3, _, _⟩ := h
    have t := hB i h1
    right
    rcases ih _ _ _ _ h3 with u | u <;> omega
theorem fw_W_app {B : List Nat} : ∀ (j i l k m p q p' q' : Nat), fw_W B i l k p q → fw_W B j k m p' q' → fw_W B (i + j) l m (p + p') (q + q') := by
  intro j
  induction j with
  | zero =>
    intro i l k m p q p' q' h h'
    obtain ⟨h1, h2, h3⟩ := h'
    subst h1
    subst h2
    subst h3
    exact h
  | succ j ih =>
    intro i l k m p q p' q' h h'
    obtain ⟨x, p2, q2, h1, h2, h3, h4, h5⟩ := h'
    have t := ih _ _ _ _ _ _ _ _ h h3
    show fw_W B ((i + j) + 1) l m (p + p') (q + q')
    exact ⟨x, p + p2, q + q2, h1, h2, t, by omega, by omega⟩
theorem fw_W_1 {B : List Nat} {i : Nat} (h : i < B.length) : fw_W B 1 (fw_lf (B.getD i 0)) (fw_lt (B.getD i 0)) (fw_lp (B.getD i 0)) (fw_lq (B.getD i 0)) :=
  ⟨i, 0, 0, h, rfl, ⟨rfl, rfl, rfl⟩, (Nat.zero_add _).symm, (Nat.zero_add _).symm⟩
/-! ===== a row of sums: ascending in the first number; the insertion ===== -/
abbrev fw_So (R : List (Nat × Nat)) : Prop := List.Pairwise (fun x y => x.1 < y.1) R
theorem fw_len (N : Nat) : ∀ (R : List (Nat × Nat)) (lo : Nat), fw_So R → (∀ e, e ∈ R → lo ≤ e.1 ∧ e.1 ≤ N) → R.length ≤ N + 1 - lo := by
  intro R
  induction R with
  | nil =>
    intro lo _ _
    exact Nat.zero_le _
  | cons e es ih =>
    intro lo hs hb
    have hs' := List.pairwise_cons.mp hs
    have h1 := hb e (List.mem_cons_self ..)
    have t := ih (e.1 + 1) hs'.2 (fun x hx => ⟨hs'.1 x hx, (hb x (List.mem_cons_of_mem _ hx)).2⟩)
    rw [List.length_cons]
    omega
def fw_ins (s : Nat × Nat) : Bool → List (Nat × Nat) → List (Nat × Nat)
  | pl, [] => if pl = true then [] else [s]
  | pl, e :: es => (if e.1 ≤ s.1 ∨ pl = true then [] else [s]) ++ ((if s.1 ≤ e.1 ∧ s.2 ≤ e.2 then [] else [e]) ++ fw_ins s (pl || !decide (e.1 ≤ s.1)) es)
theorem fw_ins_t {s e : Nat × Nat} {es : List (Nat × Nat)} : fw_ins s true (e :: es) = (if s.1 ≤ e.1 ∧ s.2 ≤ e.2 then [] else [e]) ++ fw_ins s true es := by
  show (if e.1 ≤ s.1 ∨ true = true then [] else [s]) ++ ((if s.1 ≤ e.1 ∧ s.2 ≤ e.2 then [] else [e]) ++ fw_ins s true es) = _
  rw [if_pos (Or.inr rfl)]
  rfl
theorem fw_ins_f1 {s e : Nat × Nat} {es : List (Nat × Nat)} (h : e.1 ≤ s.1) : fw_ins s false (e :: es) = (if s.1 ≤ e.1 ∧ s.2 ≤ e.2 then [] else [e]) ++ fw_ins s false es := by
  show (if e.1 ≤ s.1 ∨ false = true then [] else [s]) ++ ((if s.1 ≤ e.1 ∧ s.2 ≤ e.2 then [] else [e]) ++ fw_ins s (false || !decide (e.1 ≤ s.1)) es) = _
  rw [if_pos (Or.inl h), decide_eq_true h]
  rfl
theorem fw_ins_f2 {s e : Nat × Nat} {es : List (Nat × Nat)} (h : ¬ e.1 ≤ s.1) : fw_ins s false (e :: es) = s :: ((if s.1 ≤ e.1 ∧ s.2 ≤ e.2 then [] else [e]) ++ fw_ins s true es) := by
  show (if e.1 ≤ s.1 ∨ false = true then [] else [s]) ++ ((if s.1 ≤ e.1 ∧ s.2 ≤ e.2 then [] else [e]) ++ fw_ins s (false || !decide (e.1 ≤ s.1)) es) = _
  rw [if_neg (fun z => z.elim h (fun w => Bool.noConfusion w)), decide_eq_false h]
  rfl
theorem fw_if {c : Prop} [Decidable c] {e x : Nat × Nat} (h : x ∈ (if c then [] else [e])) : ¬ c ∧ x = e := by
  by_cases hc : c
  · rw [if_pos hc] at h
    exact absurd h List.not_mem_nil
  · rw [if_neg hc] at h
    exact ⟨hc, List.mem_singleton.mp h⟩
theorem fw_mem_t {s x : Nat × Nat} : ∀ (R : List (Nat × Nat)), x ∈ fw_ins s true R → x ∈ R := by
  intro R
  induction R with
  | nil =>
    intro h
    exact h
  | cons e es ih =>
    intro h
    rw [fw_ins_t] at h
    rcases List.mem_append.mp h with h | h
    · exact List.mem_cons.mpr (Or.inl (fw_if h).2)
    · exact List.mem_cons_of_mem _ (ih h)
theorem fw_mem_f {s x : Nat × Nat} : ∀ (R : List (Nat × Nat)), x ∈ fw_ins s false R → x = s ∨ x ∈ R := by
  intro R
  induction R with
  | nil =>
    intro h
    exact Or.inl (List.mem_singleton.mp h)
  | cons e es ih =>
    intro h
    by_cases c : e.1 ≤ s.1
    · rw [fw_ins_f1 c] at h
      rcases List.mem_append.mp h with h | h
      · exact Or.inr (List.mem_cons.mpr (Or.inl (fw_if h).2))
      · rcases ih h with u | u
        · exact Or.inl u
        · exact Or.inr (List.mem_cons_of_mem _ u)
    · rw [fw_ins_f2 c] at h
      rcases List.mem_cons.mp h with h | h
      · exact Or.inl h
      · rcases List.mem_append.mp h with h | h
        · exact Or.inr (List.mem_cons.mpr (Or.inl (fw_if h).2))
        · exact Or.inr (List.mem_cons_of_mem _ (fw_mem_t _ h))
theorem fw_keep_h {s e x : Nat × Nat} {es T : List (Nat × Nat)} (ih : x ∈ es → (s.1 ≤ x.1 ∧ s.2 ≤ x.2) ∨ x ∈ T) (h : x ∈ e :: es) : (s.1 ≤ x.1 ∧ s.2 ≤ x.2) ∨ x ∈ (if s.1 ≤ e.1 ∧ s.2 ≤ e.2 then [] else [e]) ++ T := by
  rcases List.mem_cons.mp h with h | h
  · subst h
    by_cases c : s.1 ≤ x.1 ∧ s.2 ≤ x.2
    · exact Or.inl c
    · right
      rw [if_neg c]
      exact List.mem_append.mpr (Or.inl (List.mem_singleton.mpr rfl))
  · rcases ih h with u | u
    · exact Or.inl u
    · exact Or.inr (List.mem_append.mpr (Or.inr u))
theorem fw_keep_t {s x : Nat × Nat} : ∀ (R : List (Nat × Nat)), x ∈ R → (s.1 ≤ x.1 ∧ s.2 ≤ x.2) ∨ x ∈ fw_ins s true R := by
  intro R
  induction R with
  | nil =>
    intro h
    exact absurd h List.not_mem_nil
  | cons e es ih =>
    intro h
    rw [fw_ins_t]
    exact fw_keep_h ih h
theorem fw_keep_f {s x : Nat × Nat} : ∀ (R : List (Nat × Nat)), x ∈ R → (s.1 ≤ x.1 ∧ s.2 ≤ x.2) ∨ x ∈ fw_ins s false R := by
  intro R
  induction R with
  | nil =>
    intro h
    exact absurd h List.not_mem_nil
  | cons e es ih =>
    intro h
    by_cases c : e.1 ≤ s.1
    · rw [fw_ins_f1 c]
      exact fw_keep_h ih h
    · rw [fw_ins_f2 c]
      rcases fw_keep_h (fw_keep_t es) h with u | u
      · exact Or.inl u
      · exact Or.inr (List.mem_cons_of_mem _ u)
theorem fw_in_f {s : Nat × Nat} : ∀ (R : List (Nat × Nat)), s ∈ fw_ins s false R := by
  intro R
  induction R with
  | nil => exact List.mem_singleton.mpr rfl
  | cons e es ih =>
    by_cases c : e.1 ≤ s.1
    · rw [fw_ins_f1 c]
      exact List.mem_append.mpr (Or.inr ih)
    · rw [fw_ins_f2 c]
      exact List.mem_cons_self ..
theorem fw_so_a {s e : Nat × Nat} {T : List (Nat × Nat)} (hT : fw_So T) (h : ¬ (s.1 ≤ e.1 ∧ s.2 ≤ e.2) → ∀ x, x ∈ T → e.1 < x.1) : fw_So ((if s.1 ≤ e.1 ∧ s.2 ≤ e.2 then [] else [e]) ++ T) := by
  by_cases c : s.1 ≤ e.1 ∧ s.2 ≤ e.2
  · rw [if_pos c]
    exact hT
  · rw [if_neg c]
    exact List.pairwise_cons.mpr ⟨h c, hT⟩
theorem fw_so_t {s : Nat × Nat} : ∀ (R : List (Nat × Nat)), fw_So R → fw_So (fw_ins s true R) := by
  intro R
  induction R with
  | nil =>
    intro h
    exact h
  | cons e es ih =>
    intro h
    have h' := List.pairwise_cons.mp h
    rw [fw_ins_t]
    exact fw_so_a (ih h'.2) (fun _ x hx => h'.1 x (fw_mem_t _ hx))
theorem fw_so_f {s : Nat × Nat} : ∀ (R : List (Nat × Nat)), fw_So R → (∀ e, e ∈ R → ¬ (e.1 ≤ s.1 ∧ e.2 ≤ s.2)) → fw_So (fw_ins s false R) := by
  intro R
  induction R with
  | nil =>
    intro _ _
    exact List.pairwise_singleton _ _
  | cons e es ih =>
    intro h hn
    have h' := List.pairwise_cons.mp h
    have he := hn e (List.mem_cons_self ..)
    by_cases c : e.1 ≤ s.1
    · rw [fw_ins_f1 c]
      refine fw_so_a (ih h'.2 (fun x hx => hn x (List.mem_cons_of_mem _ hx))) (fun hb x hx => ?_)
      rcases fw_mem_f _ hx with u | u
      · rw [u]
        omega
      · exact h'.1 x u
    · rw [fw_ins_f2 c]
      refine List.pairwise_cons.mpr ⟨fun x hx => ?_, fw_so_a (fw_so_t _ h'.2) (fun _ x hx => h'.1 x (fw_mem_t _ hx))⟩
      rcases List.mem_append.mp hx with u | u
      · rw [(fw_if u).2]
        omega
      · have t := h'.1 x (fw_mem_t _ u)
        omega
/-- what adding one sum does to a row -/
def fw_P (R : List (Nat × Nat)) (s : Nat × Nat) (R' : List (Nat × Nat)) : Prop :=
  fw_So R' ∧ (∀ e, e ∈ R' → e = s ∨ e ∈ R) ∧ (∀ e, e ∈ R → ∃ e', e' ∈ R' ∧ e'.1 ≤ e.1 ∧ e'.2 ≤ e.2) ∧ ∃ e', e' ∈ R' ∧ e'.1 ≤ s.1 ∧ e'.2 ≤ s.2
theorem fw_P_dom {R : List (Nat × Nat)} {s e : Nat × Nat} (h : fw_So R) (he : e ∈ R) (h1 : e.1 ≤ s.1) (h2 : e.2 ≤ s.2) : fw_P R s R :=
  ⟨h, fun _ hx => Or.inr hx, fun x hx => ⟨x, hx, Nat.le_refl _, Nat.le_refl _⟩, e, he, h1, h2⟩
theorem fw_P_ins {R : List (Nat × Nat)} {s : Nat × Nat} (h : fw_So R) (hn : ∀ e, e ∈ R → ¬ (e.1 ≤ s.1 ∧ e.2 ≤ s.2)) : fw_P R s (fw_ins s false R) := by
  refine ⟨fw_so_f R h hn, fun e he => fw_mem_f R he, fun e he => ?_, s, fw_in_f R, Nat.le_refl _, Nat.le_refl _⟩
  rcases fw_keep_f (s := s) R he with u | u
  · exact ⟨s, fw_in_f R, u.1, u.2⟩
  · exact ⟨e, u, Nat.le_refl _, Nat.le_refl _⟩
/-! ===== one join ===== -/
def fw_J (R R1 R2 : List (Nat × Nat)) (D : Nat → Nat → Prop) (R' : List (Nat × Nat)) : Prop :=
  fw_So R' ∧ (∀ e, e ∈ R' → e ∈ R ∨ ∃ e1 e2, e1 ∈ R1 ∧ e2 ∈ R2 ∧ e = (e1.1 + e2.1, e1.2 + e2.2)) ∧ (∀ e, e ∈ R → ∃ e', e' ∈ R' ∧ e'.1 ≤ e.1 ∧ e'.2 ≤ e.2) ∧ ∀ i j, i < R1.length → j < R2.length → D i j → ∃ e', e' ∈ R' ∧ e'.1 ≤ (R1.getD i (0, 0)).1 + (R2.getD j (0, 0)).1 ∧ e'.2 ≤ (R1.getD i (0, 0)).2 + (R2.getD j (0, 0)).2
theorem fw_J_0 {R R1 R2 : List (Nat × Nat)} {D : Nat → Nat → Prop} (h : fw_So R) (hD : ∀ i j, i < R1.length → j < R2.length → ¬ D i j) : fw_J R R1 R2 D R :=
  ⟨h, fun _ hx => Or.inl hx, fun x hx => ⟨x, hx, Nat.le_refl _, Nat.le_refl _⟩, fun i j hi hj d => absurd d (hD i j hi hj)⟩
theorem fw_J_w {R R1 R2 R' : List (Nat × Nat)} {D D' : Nat → Nat → Prop} (h : fw_J R R1 R2 D R') (hD : ∀ i j, i < R1.length → j < R2.length → D' i j → D i j) : fw_J R R1 R2 D' R' :=
  ⟨h.1, h.2.1, h.2.2.1, fun i j hi hj d => h.2.2.2 i j hi hj (hD i j hi hj d)⟩
theorem fw_J_s {R R1 R2 R' R'' : List (Nat × Nat)} {D D' : Nat → Nat → Prop} {i j : Nat} (h : fw_J R R1 R2 D R') (hi : i < R1.length) (hj : j < R2.length)
    (hP : fw_P R' ((R1.getD i (0, 0)).1 + (R2.getD j (0, 0)).1, (R1.getD i (0, 0)).2 + (R2.getD j (0, 0)).2) R'') (hD : ∀ i' j', D' i' j' → D i' j' ∨ (i' = i ∧ j' = j)) : fw_J R R1 R2 D' R'' := by
  obtain ⟨_, h2, h3, h4⟩ := h
  obtain ⟨p1, p2, p3, p4⟩ := hP
  refine ⟨p1, fun e he => ?_, fun e he => ?_, fun i' j' hi' hj' d => ?_⟩
  · rcases p2 e he with u | u
    · exact Or.inr ⟨_, _, fw_gm hi, fw_gm hj, u⟩
    · exact h2 e u
  · obtain ⟨x, x1, x2, x3⟩ := h3 e he
    obtain ⟨y, y1, y2, y3⟩ := p3 x x1
    exact ⟨y, y1, by omega, by omega⟩
  · rcases hD i' j' d with u | u
    · obtain ⟨x, x1, x2, x3⟩ := h4 i' j' hi' hj' u
      obtain ⟨y, y1, y2, y3⟩ := p3 x x1
      exact ⟨y, y1, by omega, by omega⟩
    · rw [u.1, u.2]
      exact p4
/-! ===== all rows: dominated, sound, one phase ===== -/
def fw_D (R : Nat → List (Nat × Nat)) (l m p q : Nat) : Prop := ∃ e, e ∈ R (7 * l + m) ∧ e.1 ≤ p ∧ e.2 ≤ q
theorem fw_D_mono {R : Nat → List (Nat × Nat)} {l m p q p' q' : Nat} (h : fw_D R l m p q) (hp : p ≤ p') (hq : q ≤ q') : fw_D R l m p' q' := by
  obtain ⟨e, h1, h2, h3⟩ := h
  exact ⟨e, h1, by omega, by omega⟩
def fw_Ph (R0 : Nat → List (Nat × Nat)) (k r : Nat) (R : Nat → List (Nat × Nat)) : Prop :=
  ∀ l m, l < 7 → m < 7 → ((7 * l + m < r ∧ l ≠ k ∧ m ≠ k ∧ l ≠ m → fw_J (R0 (7 * l + m)) (R0 (7 * l + k)) (R0 (7 * k + m)) (fun _ _ => True) (R (7 * l + m))) ∧ (¬ (7 * l + m < r ∧ l ≠ k ∧ m ≠ k ∧ l ≠ m) → R (7 * l + m) = R0 (7 * l + m)))
def fw_C (k : Nat) (R : Nat → List (Nat × Nat)) : Prop :=
  ∀ j l m p q p' q', j < k → l < 7 → m < 7 → fw_D R l j p q → fw_D R j m p' q' → fw_D R l m (p + p') (q + q')
theorem fw_up {R0 R : Nat → List (Nat × Nat)} {k r l m p q : Nat} (h : fw_Ph R0 k r R) (hl : l < 7) (hm : m < 7) (d : fw_D R0 l m p q) : fw_D R l m p q := by
  obtain ⟨e, h1, h2, h3⟩ := d
  by_cases c : 7 * l + m < r ∧ l ≠ k ∧ m ≠ k ∧ l ≠ m
  · obtain ⟨x, x1, x2, x3⟩ := ((h l m hl hm).1 c).2.2.1 e h1
    exact ⟨x, x1, by omega, by omega⟩
  · exact ⟨e, by rw [(h l m hl hm).2 c]; exact h1, h2, h3⟩
theorem fw_dn {R0 R : Nat → List (Nat × Nat)} {k r l m p q : Nat} (h : fw_Ph R0 k r R) (hl : l < 7) (hm : m < 7) (d : fw_D R l m p q) :
    fw_D R0 l m p q ∨ ∃ p1 q1 p2 q2, fw_D R0 l k p1 q1 ∧ fw_D R0 k m p2 q2 ∧ p1 + p2 ≤ p ∧ q1 + q2 ≤ q := by
  obtain ⟨e, h1, h2, h3⟩ := d
  by_cases c : 7 * l + m < r ∧ l ≠ k ∧ m ≠ k ∧ l ≠ m
  · rcases ((h l m hl hm).1 c).2.1 e h1 with u | u
    · exact Or.inl ⟨e, u, h2, h3⟩
    · obtain ⟨e1, e2, u1, u2, u3⟩ := u
      right
      refine ⟨e1.1, e1.2, e2.1, e2.2, ⟨e1, u1, Nat.le_refl _, Nat.le_refl _⟩, ⟨e2, u2, Nat.le_refl _, Nat.le_refl _⟩, ?_, ?_⟩
      · rw [u3] at h2
        exact h2
      · rw [u3] at h3
        exact h3
  · rw [(h l m hl hm).2 c] at h1
    exact Or.inl ⟨e, h1, h2, h3⟩
theorem fw_nw {R0 R : Nat → List (Nat × Nat)} {k l m p q p' q' : Nat} (h : fw_Ph R0 k 49 R) (hz : ∀ l, l < 7 → fw_D R0 l l 0 0) (hk : k < 7) (hl : l < 7) (hm : m < 7)
    (d : fw_D R0 l k p q) (d' : fw_D R0 k m p' q') : fw_D R l m (p + p') (q + q') := by
  by_cases c1 : l = k
  · subst c1
    exact fw_up h hl hm (fw_D_mono d' (by omega) (by omega))
  · by_cases c2 : m = k
    · subst c2
      exact fw_up h hl hm (fw_D_mono d (by omega) (by omega))
    · by_cases c3 : l = m
      · subst c3
        exact fw_up h hl hm (fw_D_mono (hz l hl) (by omega) (by omega))
      · obtain ⟨e, h1, h2, h3⟩ := d
        obtain ⟨e', h1', h2', h3'⟩ := d'
        obtain ⟨i, i1, i2⟩ := fw_mg (0, 0) h1
        obtain ⟨j, j1, j2⟩ := fw_mg (0, 0) h1'
        obtain ⟨x, x1, x2, x3⟩ := ((h l m hl hm).1 ⟨by omega, c1, c2, c3⟩).2.2.2 i j i1 j1 trivial
        rw [i2, j2] at x2 x3
        exact ⟨x, x1, by omega, by omega⟩
theorem fw_cl {R0 R : Nat → List (Nat × Nat)} {k : Nat} (h : fw_Ph R0 k 49 R) (hz : ∀ l, l < 7 → fw_D R0 l l 0 0) (hk : k < 7) (hc : fw_C k R0) : fw_C (k + 1) R := by
  intro j l m p q p' q' hj hl hm d d'
  by_cases c : j < k
  · have hj7 : j < 7 := by omega
    rcases fw_dn h hl hj7 d with u | ⟨p1, q1, p2, q2, u1, u2, u3, u4⟩
    · rcases fw_dn h hj7 hm d' with v | ⟨p3, q3, p4, q4, v1, v2, v3, v4⟩
      · exact fw_up h hl hm (hc j l m _ _ _ _ c hl hm u v)
      · have t := hc j l k _ _ _ _ c hl hk u v1
        exact fw_D_mono (fw_nw h hz hk hl hm t v2) (by omega) (by omega)
    · rcases fw_dn h hj7 hm d' with v | ⟨p3, q3, p4, q4, v1, v2, v3, v4⟩
      · have t := hc j k m _ _ _ _ c hk hm u2 v
        exact fw_D_mono (fw_nw h hz hk hl hm u1 t) (by omega) (by omega)
      · exact fw_D_mono (fw_nw h hz hk hl hm u1 v2) (by omega) (by omega)
  · have e : j = k := by omega
    subst e
    have e1 : R (7 * l + j) = R0 (7 * l + j) := (h l j hl hk).2 (fun z => z.2.2.1 rfl)
    have e2 : R (7 * j + m) = R0 (7 * j + m) := (h j m hk hm).2 (fun z => z.2.1 rfl)
    unfold fw_D at d d'
    rw [e1] at d
    rw [e2] at d'
    exact fw_nw h hz hk hl hm d d'
/-- how long a walk may be that a sum of a row stands for, ahead of mid k -/
def fw_g (k l m : Nat) : Nat := if l + m = 3 then (if k ≤ 0 then 1 else 2) else if l + m = 2 then (if k ≤ 1 then 1 else 3) else if l + m = 1 then (if k ≤ 2 then 1 else 5) else 1
theorem fw_g_0 (l m : Nat) : fw_g 0 l m = 1 := by
  unfold fw_g
  repeat' split
  all_goals first | rfl | omega
theorem fw_g_up (k l m : Nat) : fw_g k l m ≤ fw_g (k + 1) l m := by
  unfold fw_g
  repeat' split
  all_goals omega
theorem fw_g_5 (k l m : Nat) : fw_g k l m ≤ 5 := by
  unfold fw_g
  repeat' split
  all_goals omega
theorem fw_g_st : ∀ k, k < 3 → ∀ l, l < 3 → ∀ m, m < 3 → l ≠ k → m ≠ k → l ≠ m → fw_g k l k + fw_g k k m ≤ fw_g (k + 1) l m := by
  intro k hk l hl m hm n1 n2 n3
  have h : l + k + m = 3 := by omega
  rw [show l = 3 - k - m by omega]
  have hk' : k = 0 ∨ k = 1 ∨ k = 2 := by omega
  have hm' : m = 0 ∨ m = 1 ∨ m = 2 := by omega
  rcases hk' with e | e | e <;> rcases hm' with e' | e' | e' <;> subst e <;> subst e' <;> first | decide | omega
def fw_O (B : List Nat) (k : Nat) (R : Nat → List (Nat × Nat)) : Prop :=
  ∀ l m, l < 7 → m < 7 → fw_So (R (7 * l + m)) ∧ ∀ e, e ∈ R (7 * l + m) → ∃ j, j ≤ fw_g k l m ∧ fw_W B j l m e.1 e.2
theorem fw_two {B : List Nat} {k l m : Nat} {R : Nat → List (Nat × Nat)} {e1 e2 : Nat × Nat} (hB : fw_LB B) (h : fw_O B k R) (hk : k < 7) (hl : l < 7) (hm : m < 7) (n1 : l ≠ k) (n2 : m ≠ k) (n3 : l ≠ m)
    (h1 : e1 ∈ R (7 * l + k)) (h2 : e2 ∈ R (7 * k + m)) : ∃ j, j ≤ fw_g (k + 1) l m ∧ fw_W B j l m (e1.1 + e2.1) (e1.2 + e2.2) := by
  obtain ⟨j1, a1, a2⟩ := (h l k hl hk).2 e1 h1
  obtain ⟨j2, b1, b2⟩ := (h k m hk hm).2 e2 h2
  have c1 : l < 3 ∧ k < 3 := by
    rcases fw_W_pl hB _ _ _ _ _ a2 with u | u
    · exact absurd u n1
    · exact u
  have c2 : k < 3 ∧ m < 3 := by
    rcases fw_W_pl hB _ _ _ _ _ b2 with u | u
    · exact absurd u.symm n2
    · exact u
  have t := fw_g_st k c1.2 l c1.1 m c2.2 n1 n2 n3
  exact ⟨j1 + j2, by omega, fw_W_app _ _ _ _ _ _ _ _ _ a2 b2⟩
theorem fw_O_ph {B : List Nat} {k r : Nat} {R0 R : Nat → List (Nat × Nat)} (hB : fw_LB B) (hk : k < 7) (h0 : fw_O B k R0) (h : fw_Ph R0 k r R) : fw_O B (k + 1) R := by
  intro l m hl hm
  have hw : ∀ e, e ∈ R0 (7 * l + m) → ∃ j, j ≤ fw_g (k + 1) l m ∧ fw_W B j l m e.1 e.2 := fun e he => by
    obtain ⟨j, j1, j2⟩ := (h0 l m hl hm).2 e he
    exact ⟨j, Nat.le_trans j1 (fw_g_up k l m), j2⟩
  by_cases c : 7 * l + m < r ∧ l ≠ k ∧ m ≠ k ∧ l ≠ m
  · have t := (h l m hl hm).1 c
    refine ⟨t.1, fun e he => ?_⟩
    rcases t.2.1 e he with u | ⟨e1, e2, u1, u2, u3⟩
    · exact hw e u
    · rw [u3]
      exact fw_two hB h0 hk hl hm c.2.1 c.2.2.1 c.2.2.2 u1 u2
  · rw [(h l m hl hm).2 c]
    exact ⟨(h0 l m hl hm).1, hw⟩
/-- ahead of mid k -/
def fw_Y (B : List Nat) (k : Nat) (R : Nat → List (Nat × Nat)) : Prop :=
  fw_O B k R ∧ fw_C k R ∧ (∀ l, l < 7 → fw_D R l l 0 0) ∧ ∀ i, i < B.length → fw_D R (fw_lf (B.getD i 0)) (fw_lt (B.getD i 0)) (fw_lp (B.getD i 0)) (fw_lq (B.getD i 0))
theorem fw_Y_ph {B : List Nat} {k : Nat} {R0 R : Nat → List (Nat × Nat)} (hB : fw_LB B) (hk : k < 7) (h0 : fw_Y B k R0) (h : fw_Ph R0 k 49 R) : fw_Y B (k + 1) R := by
  obtain ⟨y1, y2, y3, y4⟩ := h0
  refine ⟨fw_O_ph hB hk y1 h, fw_cl h y3 hk y2, fun l hl => fw_up h hl hl (y3 l hl), fun i hi => ?_⟩
  have t := hB i hi
  exact fw_up h (by omega) (by omega) (y4 i hi)
/-- the rows when all is joined -/
def fw_F (B : List Nat) (R : Nat → List (Nat × Nat)) : Prop :=
  (∀ l m, l < 7 → m < 7 → fw_So (R (7 * l + m)) ∧ ∀ e, e ∈ R (7 * l + m) → ∃ j, j ≤ 5 ∧ fw_W B j l m e.1 e.2) ∧ ∀ j l m p q, l < 7 → m < 7 → fw_W B j l m p q → fw_D R l m p q
theorem fw_Y_F {B : List Nat} {R : Nat → List (Nat × Nat)} (hB : fw_LB B) (h : fw_Y B 7 R) : fw_F B R := by
  obtain ⟨y1, y2, y3, y4⟩ := h
  refine ⟨fun l m hl hm => ⟨(y1 l m hl hm).1, fun e he => ?_⟩, ?_⟩
  · obtain ⟨j, j1, j2⟩ := (y1 l m hl hm).2 e he
    exact ⟨j, Nat.le_trans j1 (fw_g_5 7 l m), j2⟩
  · intro j
    induction j with
    | zero =>
      intro l m p q hl hm h
      obtain ⟨h1, h2, h3⟩ := h
      subst h1
      subst h2
      subst h3
      exact y3 l hl
    | succ j ih =>
      intro l m p q hl hm h
      obtain ⟨i, p', q', h1, h2, h3, h4, h5⟩ := h
      have t := hB i h1
      have a := ih l _ _ _ hl (show fw_lf (B.getD i 0) < 7 by omega) h3
      have b := y4 i h1
      subst h2
      subst h4
      subst h5
      exact y2 _ _ _ _ _ _ _ (show fw_lf (B.getD i 0) < 7 by omega) hl hm a b
/-- bounds of a sound row: its numbers, how many -/
theorem fw_bd {B : List Nat} {k l m : Nat} {R : Nat → List (Nat × Nat)} (h : fw_O B k R) (hl : l < 7) (hm : m < 7) {e : Nat × Nat} (he : e ∈ R (7 * l + m)) : e.1 ≤ 15 ∧ e.2 ≤ 15 := by
  obtain ⟨j, j1, j2⟩ := (h l m hl hm).2 e he
  have t := fw_W_bd B _ _ _ _ _ j2
  have u := fw_g_5 k l m
  omega
theorem fw_bF {B : List Nat} {l m : Nat} {R : Nat → List (Nat × Nat)} (h : fw_F B R) (hl : l < 7) (hm : m < 7) {e : Nat × Nat} (he : e ∈ R (7 * l + m)) : e.1 ≤ 15 ∧ e.2 ≤ 15 := by
  obtain ⟨j, j1, j2⟩ := (h.1 l m hl hm).2 e he
  have t := fw_W_bd B _ _ _ _ _ j2
  omega
/-- one line more is added -/
theorem fw_O_add {B : List Nat} {R : Nat → List (Nat × Nat)} {l m : Nat} {s : Nat × Nat} {T : List (Nat × Nat)} (h : fw_O B 0 R) (hl : l < 7) (hm : m < 7) (hs : fw_W B 1 l m s.1 s.2) (hP : fw_P (R (7 * l + m)) s T) :
    fw_O B 0 (fun x => if x = 7 * l + m then T else R x) := by
  intro l' m' hl' hm'
  dsimp only
  by_cases c : 7 * l' + m' = 7 * l + m
  · have c1 : l' = l := by omega
    have c2 : m' = m := by omega
    subst c1
    subst c2
    rw [if_pos rfl]
    refine ⟨hP.1, fun e he => ?_⟩
    rcases hP.2.1 e he with u | u
    · rw [u]
      exact ⟨1, by rw [fw_g_0]; exact Nat.le_refl _, hs⟩
    · exact (h l' m' hl' hm').2 e u
  · rw [if_neg c]
    exact h l' m' hl' hm'
theorem fw_D_add {R : Nat → List (Nat × Nat)} {r : Nat} {s : Nat × Nat} {T : List (Nat × Nat)} (hP : fw_P (R r) s T) {l m p q : Nat} (d : fw_D R l m p q) : fw_D (fun x => if x = r then T else R x) l m p q := by
  obtain ⟨e, h1, h2, h3⟩ := d
  by_cases c : 7 * l + m = r
  · rw [c] at h1
    obtain ⟨x, x1, x2, x3⟩ := hP.2.2.1 e h1
    refine ⟨x, ?_, by omega, by omega⟩
    dsimp only
    rw [if_pos c]
    exact x1
  · refine ⟨e, ?_, h2, h3⟩
    dsimp only
    rw [if_neg c]
    exact h1
end
section
/-! ===== the rows in the state; addSum ===== -/
def fw_c (e : Nat × Nat) : Nat := 64 * e.1 + e.2
theorem fw_sh {e : Nat × Nat} (h1 : e.1 ≤ 60) (h2 : e.2 ≤ 60) : nI (fw_c e) >>> ((6 : Int32) &&& 31) = nI e.1 := by
  rw [pk_shrN (n := fw_c e) (by unfold fw_c; omega) ((6 : Int32) &&& 31) 6 (by decide)]
  rw [show fw_c e / 2 ^ 6 = e.1 from by unfold fw_c; omega]
theorem fw_an {e : Nat × Nat} (h1 : e.1 ≤ 60) (h2 : e.2 ≤ 60) : nI (fw_c e) &&& 63 = nI e.2 := by
  rw [pk_andN (n := fw_c e) (by unfold fw_c; omega) (m := 63) 6 (by decide)]
  rw [show fw_c e % 2 ^ 6 = e.2 from by unfold fw_c; omega]
theorem fw_cadd (e1 e2 : Nat × Nat) : nI (fw_c e1) + nI (fw_c e2) = nI (fw_c (e1.1 + e2.1, e1.2 + e2.2)) := by
  rw [nI_add]
  congr 1
  unfold fw_c
  dsimp only
  omega
def fw_Rows (a7 a8 : Nat → Int32) (R : Nat → List (Nat × Nat)) : Prop :=
  ∀ x, x < 49 → (R x).length ≤ 19 ∧ a7 x = nI (R x).length ∧ ∀ i, i < (R x).length → a8 (19 * x + i) = nI (fw_c ((R x).getD i (0, 0)))
theorem fw_rows_same {a7 a8 : Nat → Int32} {R : Nat → List (Nat × Nat)} {r : Nat} (h : fw_Rows a7 a8 R) : fw_Rows a7 a8 (fun x => if x = r then R r else R x) := by
  have e : (fun x => if x = r then R r else R x) = R := by
    funext x
    by_cases c : x = r
    · rw [if_pos c, c]
    · rw [if_neg c]
  rw [e]
  exact h
theorem fw_upup {R : Nat → List (Nat × Nat)} {r : Nat} {T T' : List (Nat × Nat)} : (fun x => if x = r then T' else (fun y => if y = r then T else R y) x) = (fun x => if x = r then T' else R x) := by
  funext x
  by_cases c : x = r
  · rw [if_pos c, if_pos c]
  · rw [if_neg c, if_neg c]
    dsimp only
    rw [if_neg c]
theorem fw_rows_up {a7 a8 a7' a8' : Nat → Int32} {R : Nat → List (Nat × Nat)} {r : Nat} {T : List (Nat × Nat)} (h : fw_Rows a7 a8 R) (hT : T.length ≤ 19) (h7 : a7' = upd a7 r (nI T.length))
    (h8 : ∀ j, j < T.length → a8' (19 * r + j) = nI (fw_c (T.getD j (0, 0)))) (h8' : ∀ y, (y < 19 * r ∨ 19 * r + 19 ≤ y) → a8' y = a8 y) : fw_Rows a7' a8' (fun x => if x = r then T else R x) := by
  intro x hx
  dsimp only
  rw [h7]
  by_cases c : x = r
  · rw [if_pos c, c]
    exact ⟨hT, pk_us, h8⟩
  · rw [if_neg c]
    obtain ⟨t1, t2, t3⟩ := h x hx
    refine ⟨t1, by rw [pk_un c]; exact t2, fun i hi => ?_⟩
    rw [h8' _ (by omega)]
    exact t3 i hi
section
variable {post : St1 → Prop} {J : Int32 → Int32 → Int32 → (Nat → Int32) → (Nat → Int32) → (Nat → Int32) → (Nat → Int32) → (Nat → Int32) → (Nat → Int32) → (Nat → Int32) → (Nat → Int32) → (Nat → Int32) → (Nat → Int32) → Prop} {x1 x3 x4 fl ft fg : Int32} {a1 a2 a3 a4 a5 a6 a7 a8 a9 a10 : Nat → Int32}
theorem fw_215 {r : Nat} {T : List (Nat × Nat)} (hr : r < 49) (hT : T.length ≤ 19) (h9 : ∀ j, j < T.length → a9 j = nI (fw_c (T.getD j (0, 0))))
    (H : ∀ a7' a8', a7' = upd a7 r (nI T.length) → (∀ j, j < T.length → a8' (19 * r + j) = nI (fw_c (T.getD j (0, 0)))) → (∀ y, (y < 19 * r ∨ 19 * r + 19 ≤ y) → a8' y = a8 y) → post (fl, ft, nI T.length, a1, a2, a3, a4, a5, a6, a7', a8', a9, a10)) :
    ∃ n, wX_addSum_215 post (nI r) (nI (19 * r)) fl ft (nI T.length) n 0 a1 a2 a3 a4 a5 a6 a7 a8 a9 a10 := by
  refine pk_loop (fun n i s => wX_addSum_215 post (nI r) (nI (19 * r)) fl ft (nI T.length) n (nI i) a1 a2 a3 a4 a5 a6 a7 s a9 a10) (fun i s => (∀ j, j < i → s (19 * r + j) = nI (fw_c (T.getD j (0, 0)))) ∧ ∀ y, (y < 19 * r ∨ 19 * r + 19 ≤ y) → s y = a8 y) T.length 0 a8 (Nat.zero_le _) ⟨fun j hj => absurd hj (by omega), fun y _ => rfl⟩ ?_ ?_
  · intro n s h
    refine pk_le T.length T.length (fun _ => ⟨pk_in r 49 hr, ?_⟩) (fun z => absurd z (by omega))
    rw [nI_clamp (show r < 2 ^ 31 by omega)]
    exact nm_e (H _ _ rfl h.1 h.2)
  · intro n i s hi h hw
    refine pk_le T.length i (fun z => absurd z (by omega)) (fun _ => ⟨pk_in i 40 (by omega), pk_in (19 * r + i) 931 (by omega) (nI_add _ _), ?_⟩)
    rw [nI_add, nI_clamp (show i < 2 ^ 31 by omega), nI_clamp (show 19 * r + i < 2 ^ 31 by omega), h9 i hi]
    refine nm_e (nm_r (nI_1 i) (hw _ ⟨fun j hj => ?_, fun y hy => ?_⟩))
    · by_cases c : j = i
      · rw [c, pk_us]
      · rw [pk_un (by omega)]
        exact h.1 j (by omega)
    · rw [pk_un (by omega)]
      exact h.2 y hy
theorem fw_109 {k c : Nat} {e s : Nat × Nat} (hk : k < 931) (hv : a8 k = nI (fw_c e)) (he : e.1 ≤ 15 ∧ e.2 ≤ 15) (hs : s.1 ≤ 15 ∧ s.2 ≤ 15) (hc : c < 40)
    (HT : s.1 ≤ e.1 ∧ s.2 ≤ e.2 → J x4 (nI (k + 1)) (nI c) a1 a2 a3 a4 a5 a6 a7 a8 a9 a10)
    (HF : ¬ (s.1 ≤ e.1 ∧ s.2 ≤ e.2) → J x4 (nI (k + 1)) (nI (c + 1)) a1 a2 a3 a4 a5 a6 a7 a8 (upd a9 c (nI (fw_c e))) a10) :
    wX_addSum_109 post J x1 (nI (fw_c s)) x3 x4 (nI k) fl ft (nI c) a1 a2 a3 a4 a5 a6 a7 a8 a9 a10 := by
  unfold wX_addSum_109 wX_addSum_147 wX_addSum_148
  rw [nI_clamp (show k < 2 ^ 31 by omega), nI_clamp (show c < 2 ^ 31 by omega), hv, fw_sh (by omega) (by omega), fw_sh (by omega) (by omega), fw_an (by omega) (by omega), fw_an (by omega) (by omega)]
  have F : ¬ (s.1 ≤ e.1 ∧ s.2 ≤ e.2) → vp_in (nI k) 931 ∧ (vp_in (nI c) 40 ∧ ∀ a9_25 : Nat → Int32, a9_25 = upd a9 c (nI (fw_c e)) → ∀ f_26 : Int32, f_26 = nI c + 1 → ∀ x5_27 : Int32, x5_27 = nI k + 1 → J x4 x5_27 f_26 a1 a2 a3 a4 a5 a6 a7 a8 a9_25 a10) :=
    fun h => ⟨pk_in k 931 hk, pk_in c 40 hc, nm_e (nm_r (nI_1 c) (nm_r (nI_1 k) (HF h)))⟩
  refine ⟨pk_in k 931 hk, pk_lt e.1 s.1 (fun h1 => br_t rfl (F (by omega))) (fun h1 => ⟨pk_in k 931 hk, pk_lt e.2 s.2 (fun h2 => br_t rfl (F (by omega))) (fun h2 => br_f (by decide) (nm_r (nI_1 k) (HT ⟨h1, h2⟩)))⟩)⟩
/-- the gathered list and its place in the state -/
def fw_G (G : List (Nat × Nat)) (g : Int32) (a : Nat → Int32) : Prop := g = nI G.length ∧ ∀ j, j < G.length → a j = nI (fw_c (G.getD j (0, 0)))
theorem fw_G_add {G : List (Nat × Nat)} {a : Nat → Int32} {s : Nat × Nat} (h : fw_G G (nI G.length) a) : fw_G (G ++ [s]) (nI (G.length + 1)) (upd a G.length (nI (fw_c s))) := by
  refine ⟨by rw [List.length_append]; rfl, fun j hj => ?_⟩
  rw [List.length_append] at hj
  have hj' : j < G.length + 1 := hj
  by_cases c : j = G.length
  · rw [c, pk_us, fw_ar]
  · rw [pk_un c, fw_al (by omega)]
    exact h.2 j (by omega)
def fw_I (R : List (Nat × Nat)) (s : Nat × Nat) (i : Nat) (σ : Int32 × Int32 × (Nat → Int32)) : Prop :=
  ∃ (pl : Bool) (G : List (Nat × Nat)), σ.1 = (if pl = true then 1 else 0) ∧ fw_G G σ.2.1 σ.2.2 ∧ G ++ fw_ins s pl (R.drop i) = fw_ins s false R ∧ G.length ≤ i + 1 ∧ (pl = false → G.length ≤ i) ∧ ∀ j, j < i → ¬ ((R.getD j (0, 0)).1 ≤ s.1 ∧ (R.getD j (0, 0)).2 ≤ s.2)
theorem fw_addSum {r : Nat} {R : Nat → List (Nat × Nat)} {s : Nat × Nat} (hr : r < 49) (hR : fw_Rows a7 a8 R) (hso : fw_So (R r)) (hb : ∀ e, e ∈ R r → e.1 ≤ 15 ∧ e.2 ≤ 15) (hs : s.1 ≤ 15 ∧ s.2 ≤ 15) {y1 y2 : Int32} (e1 : y1 = nI r) (e2 : y2 = nI (fw_c s))
    (H : ∀ fg' a7' a8' a9' T, fw_P (R r) s T → fw_Rows a7' a8' (fun x => if x = r then T else R x) → post (fl, ft, fg', a1, a2, a3, a4, a5, a6, a7', a8', a9', a10)) :
    wpX_addSum post (fl, ft, fg, a1, a2, a3, a4, a5, a6, a7, a8, a9, a10) y1 y2 := by
  subst e1
  subst e2
  obtain ⟨r1, r2, r3⟩ := hR r hr
  refine nm_r (show 19 * nI r = nI (19 * r) from pk_mul 19 r) ?_
  refine pk_loop (fun n i (σ : Int32 × Int32 × (Nat → Int32)) => wX_addSum_16 post (nI r) (nI (fw_c s)) (nI (19 * r)) fl ft n σ.1 (nI (19 * r + i)) σ.2.1 a1 a2 a3 a4 a5 a6 a7 a8 σ.2.2 a10) (fw_I (R r) s) (R r).length 0 ((0 : Int32), (0 : Int32), a9) (Nat.zero_le _) ?_ ?_ ?_
  · exact ⟨false, [], rfl, ⟨rfl, fun j hj => absurd hj (Nat.not_lt_zero _)⟩, rfl, Nat.zero_le _, fun _ => Nat.le_refl _, fun j hj => absurd hj (Nat.not_lt_zero _)⟩
  · rintro n ⟨f4, g, a⟩ ⟨pl, G, i1, ⟨i2, i3⟩, i4, i5, i6, i7⟩
    have i1' : f4 = if pl = true then 1 else 0 := i1
    have i2' : g = nI G.length := i2
    subst i1'
    subst i2'
    have nd : ∀ e, e ∈ R r → ¬ (e.1 ≤ s.1 ∧ e.2 ≤ s.2) := fun e he => by
      obtain ⟨j, j1, j2⟩ := fw_mg (0, 0) he
      rw [← j2]
      exact i7 j j1
    have hP := fw_P_ins hso nd
    have hlen : (fw_ins s false (R r)).length ≤ 19 := by
      have t := fw_len 15 _ 0 hP.1 (fun e he => ⟨Nat.zero_le _, by
        rcases hP.2.1 e he with u | u
        · rw [u]
          exact hs.1
        · exact (hb e u).1⟩)
      omega
    rw [List.drop_length] at i4
    have E : ∀ (T : List (Nat × Nat)) (a9' : Nat → Int32), T = fw_ins s false (R r) → (∀ j, j < T.length → a9' j = nI (fw_c (T.getD j (0, 0)))) → ∃ n, wX_addSum_215 post (nI r) (nI (19 * r)) fl ft (nI T.length) n 0 a1 a2 a3 a4 a5 a6 a7 a8 a9' a10 := by
      intro T a9' hT h9
      rw [← hT] at hlen hP
      exact fw_215 hr hlen h9 (fun a7' a8' h7 h8 h8' => H _ _ _ _ T hP (fw_rows_up hR hlen h7 h8 h8'))
    show vp_in (nI r) 49 ∧ _
    refine ⟨pk_in r 49 hr, ?_⟩
    rw [nI_clamp (show r < 2 ^ 31 by omega), r2, nI_add]
    refine pk_le (19 * r + (R r).length) (19 * r + (R r).length) (fun _ => ?_) (fun z => absurd z (by omega))
    cases pl with
    | false =>
      refine br_t rfl ⟨pk_in G.length 40 (by omega), ?_⟩
      show ∀ a9_13 : Nat → Int32, a9_13 = upd a (nI G.length).toNatClampNeg (nI (fw_c s)) → _
      rw [nI_clamp (show G.length < 2 ^ 31 by omega)]
      refine nm_e (nm_r (nI_1 _) ?_)
      have t := fw_G_add (s := s) (a := a) ⟨rfl, i3⟩
      have u := E (G ++ [s]) _ i4 t.2
      rw [List.length_append] at u
      exact u
    | true =>
      refine br_f (show ¬ (1 : Int32) = 0 by decide) ?_
      have i4' : G ++ [] = fw_ins s false (R r) := i4
      rw [List.append_nil] at i4'
      exact E G a i4' i3
  · rintro n i ⟨f4, g, a⟩ hi ⟨pl, G, i1, ⟨i2, i3⟩, i4, i5, i6, i7⟩ hw
    have i1' : f4 = if pl = true then 1 else 0 := i1
    have i2' : g = nI G.length := i2
    subst i1'
    subst i2'
    have hmem : (R r).getD i (0, 0) ∈ R r := fw_gm hi
    have he := hb _ hmem
    have hv := r3 i hi
    rw [fw_dr (d := (0, 0)) hi] at i4
    obtain ⟨e, ee⟩ : ∃ e, (R r).getD i (0, 0) = e := ⟨_, rfl⟩
    rw [ee] at hmem he hv i4
    have K : ∀ (pl' : Bool) (G' : List (Nat × Nat)) (f4' : Int32) (a' : Nat → Int32), f4' = (if pl' = true then 1 else 0) → fw_G G' (nI G'.length) a' → G'.length ≤ i + 1 → (pl' = false → G'.length ≤ i) →
        G' ++ ((if s.1 ≤ e.1 ∧ s.2 ≤ e.2 then [] else [e]) ++ fw_ins s pl' ((R r).drop (i + 1))) = fw_ins s false (R r) → ¬ (e.1 ≤ s.1 ∧ e.2 ≤ s.2) →
        wX_addSum_109 post (wX_addSum_16 post (nI r) (nI (fw_c s)) (nI (19 * r)) fl ft n) (nI r) (nI (fw_c s)) (nI (19 * r)) f4' (nI (19 * r + i)) fl ft (nI G'.length) a1 a2 a3 a4 a5 a6 a7 a8 a' a10 := by
      intro pl' G' f4' a' h1 h2 h3 h4 h5 h6
      have i7' : ∀ j, j < i + 1 → ¬ (((R r).getD j (0, 0)).1 ≤ s.1 ∧ ((R r).getD j (0, 0)).2 ≤ s.2) := fun j hj => by
        by_cases c : j = i
        · rw [c, ee]
          exact h6
        · exact i7 j (by omega)
      refine fw_109 (by omega) hv he hs (by omega) (fun hbt => ?_) (fun hbt => ?_)
      · rw [if_pos hbt] at h5
        exact hw (f4', nI G'.length, a') ⟨pl', G', h1, h2, h5, by omega, fun z => by have := h4 z; omega, i7'⟩
      · rw [if_neg hbt] at h5
        have hl : (G' ++ [e]).length = G'.length + 1 := by rw [List.length_append]; rfl
        exact hw (f4', nI (G'.length + 1), upd a' G'.length (nI (fw_c e))) ⟨pl', G' ++ [e], h1, fw_G_add h2, by rw [List.append_assoc]; exact h5, by omega, fun z => by have := h4 z; omega, i7'⟩
    refine ⟨pk_in r 49 hr, ?_⟩
    rw [nI_clamp (show r < 2 ^ 31 by omega), r2, nI_add]
    refine pk_le (19 * r + (R r).length) (19 * r + i) (fun z => absurd z (by omega)) (fun _ => ⟨pk_in (19 * r + i) 931 (by omega), ?_⟩)
    rw [nI_clamp (show 19 * r + i < 2 ^ 31 by omega), hv, fw_sh (e := s) (by omega) (by omega), fw_sh (e := e) (by omega) (by omega)]
    refine pk_lt s.1 e.1 (fun h => ?_) (fun h => ?_)
    · refine br_t rfl (br_t rfl ?_)
      cases pl with
      | false =>
        refine br_t rfl ⟨pk_in G.length 40 (by omega), ?_⟩
        dsimp only
        rw [nI_clamp (show G.length < 2 ^ 31 by omega)]
        refine nm_e (nm_r (nI_1 _) ?_)
        have hl : (G ++ [s]).length = G.length + 1 := by rw [List.length_append]; rfl
        have t := K true (G ++ [s]) 1 (upd a G.length (nI (fw_c s))) rfl (by rw [hl]; exact fw_G_add ⟨rfl, i3⟩) (by have := i6 rfl; omega) (fun z => Bool.noConfusion z) (by rw [fw_ins_f2 (by omega)] at i4; rw [List.append_assoc]; exact i4) (by omega)
        rw [hl] at t
        exact t
      | true =>
        refine br_f (show ¬ (1 : Int32) = 0 by decide) ?_
        exact K true G 1 a rfl ⟨rfl, i3⟩ i5 (fun z => Bool.noConfusion z) (by rw [fw_ins_t] at i4; exact i4) (by omega)
    · refine br_f (by decide) ⟨pk_in (19 * r + i) 931 (by omega), ?_⟩
      rw [nI_clamp (show 19 * r + i < 2 ^ 31 by omega), hv, fw_an (e := s) (by omega) (by omega), fw_an (e := e) (by omega) (by omega)]
      refine pk_lt s.2 e.2 (fun h2 => ?_) (fun h2 => ?_)
      · refine br_f (by decide) ?_
        refine K pl G _ a rfl ⟨rfl, i3⟩ i5 i6 ?_ (by omega)
        cases pl with
        | false =>
          rw [fw_ins_f1 h] at i4
          exact i4
        | true =>
          rw [fw_ins_t] at i4
          exact i4
      · exact H _ _ _ _ (R r) (fw_P_dom hso hmem h h2) (fw_rows_same hR)
end
end
section
/-! ===== joinOver ===== -/
section
variable {post : St1 → Prop} {J : Int32 → Int32 → Int32 → Int32 → (Nat → Int32) → (Nat → Int32) → (Nat → Int32) → (Nat → Int32) → (Nat → Int32) → (Nat → Int32) → (Nat → Int32) → (Nat → Int32) → (Nat → Int32) → (Nat → Int32) → Prop} {fl ft fg : Int32} {a1 a2 a3 a4 a5 a6 a7 a8 a9 a10 : Nat → Int32}
/-- rows r1 and r2 are joined into row r -/
def fw_K (R : Nat → List (Nat × Nat)) (r r1 r2 : Nat) : Prop :=
  r < 49 ∧ r1 < 49 ∧ r2 < 49 ∧ r1 ≠ r ∧ r2 ≠ r ∧ fw_So (R r) ∧ (∀ e, e ∈ R r → e.1 ≤ 15 ∧ e.2 ≤ 15) ∧ ∀ e1 e2, e1 ∈ R r1 → e2 ∈ R r2 → e1.1 + e2.1 ≤ 15 ∧ e1.2 + e2.2 ≤ 15
theorem fw_J_bd {R : Nat → List (Nat × Nat)} {r r1 r2 : Nat} {D : Nat → Nat → Prop} {T : List (Nat × Nat)} (k : fw_K R r r1 r2) (h : fw_J (R r) (R r1) (R r2) D T) : ∀ e, e ∈ T → e.1 ≤ 15 ∧ e.2 ≤ 15 := by
  obtain ⟨_, _, _, _, _, _, k7, k8⟩ := k
  intro e he
  rcases h.2.1 e he with u | ⟨e1, e2, u1, u2, u3⟩
  · exact k7 e u
  · rw [u3]
    exact k8 e1 e2 u1 u2
theorem fw_62 {R : Nat → List (Nat × Nat)} {r r1 r2 i : Nat} {T0 : List (Nat × Nat)} (k : fw_K R r r1 r2) (hi : i < (R r1).length)
    (h0 : fw_J (R r) (R r1) (R r2) (fun i' _ => i' < i) T0) (hR : fw_Rows a7 a8 (fun x => if x = r then T0 else R x))
    (H : ∀ fg' a7' a8' a9' T, fw_J (R r) (R r1) (R r2) (fun i' _ => i' < i + 1) T → fw_Rows a7' a8' (fun x => if x = r then T else R x) → J (nI (i + 1)) fl ft fg' a1 a2 a3 a4 a5 a6 a7' a8' a9' a10) :
    ∃ n, wX_joinOver_62 post J (nI r) (nI r1) (nI r2) (nI i) n 0 fl ft fg a1 a2 a3 a4 a5 a6 a7 a8 a9 a10 := by
  obtain ⟨k1, k2, k3, k4, k5, k6, k7, k8⟩ := id k
  refine pk_loop (fun n j (σ : Int32 × (Nat → Int32) × (Nat → Int32) × (Nat → Int32)) => wX_joinOver_62 post J (nI r) (nI r1) (nI r2) (nI i) n (nI j) fl ft σ.1 a1 a2 a3 a4 a5 a6 σ.2.1 σ.2.2.1 σ.2.2.2 a10)
    (fun j σ => ∃ T, fw_J (R r) (R r1) (R r2) (fun i' j' => i' < i ∨ (i' = i ∧ j' < j)) T ∧ fw_Rows σ.2.1 σ.2.2.1 (fun x => if x = r then T else R x)) (R r2).length 0 (fg, a7, a8, a9) (Nat.zero_le _) ?_ ?_ ?_
  · exact ⟨T0, fw_J_w h0 (fun i' j' _ _ d => by omega), hR⟩
  · rintro n ⟨g, b7, b8, b9⟩ ⟨T, t1, t2⟩
    have q := t2 r2 k3
    dsimp only at q
    rw [if_neg k5] at q
    refine ⟨pk_in r2 49 k3, ?_⟩
    dsimp only
    rw [nI_clamp (show r2 < 2 ^ 31 by omega), q.2.1]
    exact pk_le (R r2).length (R r2).length (fun _ => nm_r (nI_1 i) (H _ _ _ _ T (fw_J_w t1 (fun i' j' _ _ d => by omega)) t2)) (fun z => absurd z (by omega))
  · rintro n j ⟨g, b7, b8, b9⟩ hj ⟨T, t1, t2⟩ hw
    have q2 := t2 r2 k3
    dsimp only at q2
    rw [if_neg k5] at q2
    have q1 := t2 r1 k2
    dsimp only at q1
    rw [if_neg k4] at q1
    refine ⟨pk_in r2 49 k3, ?_⟩
    dsimp only
    rw [nI_clamp (show r2 < 2 ^ 31 by omega), q2.2.1]
    have E1 : 19 * nI r1 + nI i = nI (19 * r1 + i) := by
      rw [show 19 * nI r1 = nI (19 * r1) from pk_mul 19 r1, nI_add]
    have E2 : 19 * nI r2 + nI j = nI (19 * r2 + j) := by
      rw [show 19 * nI r2 = nI (19 * r2) from pk_mul 19 r2, nI_add]
    refine pk_le (R r2).length j (fun z => absurd z (by omega)) (fun _ => ⟨pk_in (19 * r1 + i) 931 (by omega) E1, pk_in (19 * r2 + j) 931 (by omega) E2, ?_⟩)
    have hT : (if r = r then T else R r) = T := if_pos rfl
    refine fw_addSum (R := fun x => if x = r then T else R x) (r := r) (s := (((R r1).getD i (0, 0)).1 + ((R r2).getD j (0, 0)).1, ((R r1).getD i (0, 0)).2 + ((R r2).getD j (0, 0)).2)) k1 t2 ?_ ?_ (k8 _ _ (fw_gm hi) (fw_gm hj)) rfl ?_ ?_
    · rw [hT]
      exact t1.1
    · rw [hT]
      exact fw_J_bd k t1
    · rw [E1, E2, nI_clamp (show 19 * r1 + i < 2 ^ 31 by omega), nI_clamp (show 19 * r2 + j < 2 ^ 31 by omega), q1.2.2 i hi, q2.2.2 j hj, fw_cadd]
    · intro fg' a7' a8' a9' T' hP hR'
      rw [fw_upup] at hR'
      rw [hT] at hP
      exact nm_r (nI_1 j) (hw (fg', a7', a8', a9') ⟨T', fw_J_s t1 hi hj hP (fun i' j' d => by omega), hR'⟩)
theorem fw_48 {R : Nat → List (Nat × Nat)} {r r1 r2 : Nat} (k : fw_K R r r1 r2) (hR : fw_Rows a7 a8 R)
    (H : ∀ fg' a7' a8' a9' T, fw_J (R r) (R r1) (R r2) (fun _ _ => True) T → fw_Rows a7' a8' (fun x => if x = r then T else R x) → post (fl, ft, fg', a1, a2, a3, a4, a5, a6, a7', a8', a9', a10)) :
    ∃ n, wX_joinOver_48 post (nI r) (nI r1) (nI r2) n 0 fl ft fg a1 a2 a3 a4 a5 a6 a7 a8 a9 a10 := by
  obtain ⟨k1, k2, k3, k4, k5, k6, k7, k8⟩ := id k
  refine pk_loop (fun n i (σ : Int32 × (Nat → Int32) × (Nat → Int32) × (Nat → Int32)) => wX_joinOver_48 post (nI r) (nI r1) (nI r2) n (nI i) fl ft σ.1 a1 a2 a3 a4 a5 a6 σ.2.1 σ.2.2.1 σ.2.2.2 a10)
    (fun i σ => ∃ T, fw_J (R r) (R r1) (R r2) (fun i' _ => i' < i) T ∧ fw_Rows σ.2.1 σ.2.2.1 (fun x => if x = r then T else R x)) (R r1).length 0 (fg, a7, a8, a9) (Nat.zero_le _) ?_ ?_ ?_
  · exact ⟨R r, fw_J_0 k6 (fun i j _ _ => Nat.not_lt_zero _), fw_rows_same hR⟩
  · rintro n ⟨g, b7, b8, b9⟩ ⟨T, t1, t2⟩
    have q := t2 r1 k2
    dsimp only at q
    rw [if_neg k4] at q
    refine ⟨pk_in r1 49 k2, ?_⟩
    dsimp only
    rw [nI_clamp (show r1 < 2 ^ 31 by omega), q.2.1]
    exact pk_le (R r1).length (R r1).length (fun _ => H _ _ _ _ T (fw_J_w t1 (fun i' j' hi' _ _ => hi')) t2) (fun z => absurd z (by omega))
  · rintro n i ⟨g, b7, b8, b9⟩ hi ⟨T, t1, t2⟩ hw
    have q := t2 r1 k2
    dsimp only at q
    rw [if_neg k4] at q
    refine ⟨pk_in r1 49 k2, ?_⟩
    dsimp only
    rw [nI_clamp (show r1 < 2 ^ 31 by omega), q.2.1]
    refine pk_le (R r1).length i (fun z => absurd z (by omega)) (fun _ => ?_)
    exact fw_62 k hi t1 t2 (fun fg' a7' a8' a9' T' h1 h2 => hw (fg', a7', a8', a9') ⟨T', h1, h2⟩)
theorem fw_joinOver {R : Nat → List (Nat × Nat)} {l m k : Nat} (hl : l < 7) (hm : m < 7) (hk : k < 7) (hR : fw_Rows a7 a8 R) (hK : l ≠ k → m ≠ k → l ≠ m → fw_K R (7 * l + m) (7 * l + k) (7 * k + m))
    (H : ∀ fg' a7' a8' a9' T, (l ≠ k ∧ m ≠ k ∧ l ≠ m → fw_J (R (7 * l + m)) (R (7 * l + k)) (R (7 * k + m)) (fun _ _ => True) T) → (¬ (l ≠ k ∧ m ≠ k ∧ l ≠ m) → T = R (7 * l + m)) → fw_Rows a7' a8' (fun x => if x = 7 * l + m then T else R x) → post (fl, ft, fg', a1, a2, a3, a4, a5, a6, a7', a8', a9', a10)) :
    wpX_joinOver post (fl, ft, fg, a1, a2, a3, a4, a5, a6, a7, a8, a9, a10) (nI (7 * l + m)) (nI k) := by
  have d1 : nI (7 * l + m) / 7 = nI l := (pk_div (a := 7 * l + m) (d := 7) (by omega) (by omega) (by omega)).trans (by rw [show (7 * l + m) / 7 = l by omega])
  have d2 : nI (7 * l + m) - nI l * 7 = nI m := by
    have t := pk_rem (a := 7 * l + m) (d := 7) (by omega) (by omega) (by omega)
    rw [show (7 * l + m) % 7 = m by omega, pk_div (by omega) (by omega) (by omega), show (7 * l + m) / 7 = l by omega] at t
    exact t
  have d3 : nI (7 * l + m) - nI (7 * l + m) / 8 * 8 = nI ((7 * l + m) % 8) := pk_rem (a := 7 * l + m) (d := 8) (by omega) (by omega) (by omega)
  have S : ¬ (l ≠ k ∧ m ≠ k ∧ l ≠ m) → post (fl, ft, fg, a1, a2, a3, a4, a5, a6, a7, a8, a9, a10) := fun z => H fg a7 a8 a9 (R (7 * l + m)) (fun w => absurd w z) (fun _ => rfl) (fw_rows_same hR)
  unfold wpX_joinOver
  dsimp only
  rw [d1, d2, d3]
  refine ⟨by decide, nm_r (show 7 * nI l + nI k = nI (7 * l + k) by rw [show 7 * nI l = nI (7 * l) from pk_mul 7 l, nI_add]) ⟨by decide, nm_r (show 7 * nI k + nI m = nI (7 * k + m) by rw [show 7 * nI k = nI (7 * k) from pk_mul 7 k, nI_add]) ⟨by decide, ?_⟩⟩⟩
  refine pk_eq l k (fun z => S (fun w => w.1 z)) (fun z1 => ⟨by decide, pk_eq m k (fun z => S (fun w => w.2.1 z)) (fun z2 => ⟨by decide, pk_eq ((7 * l + m) % 8) 0 (fun z => S (fun w => w.2.2 (by omega))) (fun z3 => ?_)⟩)⟩)
  have z4 : l ≠ m := fun z => z3 (by omega)
  exact fw_48 (hK z1 z2 z4) hR (fun fg' a7' a8' a9' T h1 h2 => H fg' a7' a8' a9' T (fun _ => h1) (fun w => absurd ⟨z1, z2, z4⟩ w) h2)
end
/-! ===== count ===== -/
abbrev fw_q (R : List (Nat × Nat)) (a b m i j : Nat) : Prop := a + (R.getD j (0, 0)).1 ≤ 15 ∧ b + (R.getD j (0, 0)).2 ≤ 15 ∧ 256 * m + 16 * (a + (R.getD j (0, 0)).1) + (b + (R.getD j (0, 0)).2) = i
def fw_hc (R : List (Nat × Nat)) (a b m i : Nat) : Nat → Nat
  | 0 => 0
  | j + 1 => fw_hc R a b m i j + if a + (R.getD j (0, 0)).1 ≤ 15 ∧ b + (R.getD j (0, 0)).2 ≤ 15 ∧ 256 * m + 16 * (a + (R.getD j (0, 0)).1) + (b + (R.getD j (0, 0)).2) = i then 1 else 0
def fw_hm (R : Nat → List (Nat × Nat)) (l a b i : Nat) : Nat → Nat
  | 0 => 0
  | m + 1 => fw_hm R l a b i m + fw_hc (R (7 * l + m)) a b m i (R (7 * l + m)).length
theorem fw_hc_s {R : List (Nat × Nat)} {a b m i j : Nat} (h : fw_q R a b m i j) : fw_hc R a b m i (j + 1) = fw_hc R a b m i j + 1 := by
  show fw_hc R a b m i j + (if a + (R.getD j (0, 0)).1 ≤ 15 ∧ b + (R.getD j (0, 0)).2 ≤ 15 ∧ 256 * m + 16 * (a + (R.getD j (0, 0)).1) + (b + (R.getD j (0, 0)).2) = i then 1 else 0) = _
  rw [if_pos h]
theorem fw_hc_n {R : List (Nat × Nat)} {a b m i j : Nat} (h : ¬ fw_q R a b m i j) : fw_hc R a b m i (j + 1) = fw_hc R a b m i j := by
  show fw_hc R a b m i j + (if a + (R.getD j (0, 0)).1 ≤ 15 ∧ b + (R.getD j (0, 0)).2 ≤ 15 ∧ 256 * m + 16 * (a + (R.getD j (0, 0)).1) + (b + (R.getD j (0, 0)).2) = i then 1 else 0) = _
  rw [if_neg h]
  rfl
theorem fw_by (x by' : Int32) (c : Nat) : x + by' * nI c + by' = x + by' * nI (c + 1) := by
  rw [nI_succ]
  grind
section
variable {post : St1 → Prop} {J : Int32 → (Nat → Int32) → (Nat → Int32) → (Nat → Int32) → (Nat → Int32) → (Nat → Int32) → (Nat → Int32) → (Nat → Int32) → (Nat → Int32) → (Nat → Int32) → (Nat → Int32) → Prop} {fl ft fg x1 v : Int32} {a1 a2 a3 a4 a5 a6 a7 a8 a9 a10 : Nat → Int32}
theorem fw_26 {R : List (Nat × Nat)} {r a b m : Nat} (hr : r < 49) (hm : m < 7) (ha : a ≤ 15) (hb' : b ≤ 15) (h7 : a7 r = nI R.length) (hl : R.length ≤ 19) (h8 : ∀ i, i < R.length → a8 (19 * r + i) = nI (fw_c (R.getD i (0, 0)))) (hb : ∀ e, e ∈ R → e.1 ≤ 15 ∧ e.2 ≤ 15)
    (H : ∀ a10', (∀ y, y < 1792 → a10' y = a10 y + v * nI (fw_hc R a b m y R.length)) → J (nI (m + 1)) a1 a2 a3 a4 a5 a6 a7 a8 a9 a10') :
    ∃ n, wX_count_26 post J x1 (nI (16 * a + b)) v (nI m) (nI r) fl ft fg n (nI (19 * r)) a1 a2 a3 a4 a5 a6 a7 a8 a9 a10 := by
  have s4 : nI (16 * a + b) >>> ((4 : Int32) &&& 31) = nI a := by
    rw [pk_shrN (n := 16 * a + b) (by omega) ((4 : Int32) &&& 31) 4 (by decide)]
    rw [show (16 * a + b) / 2 ^ 4 = a from by omega]
  have m4 : nI (16 * a + b) &&& 15 = nI b := by
    rw [pk_andN (n := 16 * a + b) (by omega) (m := 15) 4 (by decide)]
    rw [show (16 * a + b) % 2 ^ 4 = b from by omega]
  have E : 19 * nI r = nI (19 * r) := pk_mul 19 r
  refine pk_loop (fun n i s => wX_count_26 post J x1 (nI (16 * a + b)) v (nI m) (nI r) fl ft fg n (nI (19 * r + i)) a1 a2 a3 a4 a5 a6 a7 a8 a9 s) (fun i s => ∀ y, y < 1792 → s y = a10 y + v * nI (fw_hc R a b m y i)) R.length 0 a10 (Nat.zero_le _) ?_ ?_ ?_
  · intro y _
    show a10 y = a10 y + v * nI 0
    rw [nI_0]
    grind
  · intro n s h
    refine ⟨pk_in r 49 hr, ?_⟩
    rw [nI_clamp (show r < 2 ^ 31 by omega), E, h7, nI_add]
    exact pk_le (19 * r + R.length) (19 * r + R.length) (fun _ => nm_r (nI_1 m) (H s h)) (fun z => absurd z (by omega))
  · intro n i s hi h hw
    have he := hb _ (fw_gm (d := (0, 0)) hi)
    refine ⟨pk_in r 49 hr, ?_⟩
    rw [nI_clamp (show r < 2 ^ 31 by omega), nI_clamp (show 19 * r + i < 2 ^ 31 by omega), E, h7, h8 i hi, s4, m4, fw_sh (by omega) (by omega), fw_an (by omega) (by omega)]
    rw [nI_add, nI_add, nI_add]
    refine pk_le (19 * r + R.length) (19 * r + i) (fun z => absurd z (by omega)) (fun _ => ⟨pk_in (19 * r + i) 931 (by omega), nm_e ⟨pk_in (19 * r + i) 931 (by omega), nm_e ?_⟩⟩)
    refine pk_lt 15 (a + (R.getD i (0, 0)).1) (fun z => nm_r (nI_1 _) (hw s (fun y hy => ?_))) (fun z1 => pk_lt 15 (b + (R.getD i (0, 0)).2) (fun z => nm_r (nI_1 _) (hw s (fun y hy => ?_))) (fun z2 => ?_))
    · rw [fw_hc_n (fun q => absurd q.1 (by omega))]
      exact h y hy
    · rw [fw_hc_n (fun q => absurd q.2.1 (by omega))]
      exact h y hy
    · have E2 : 256 * nI m + 16 * nI (a + (R.getD i (0, 0)).1) + nI (b + (R.getD i (0, 0)).2) = nI (256 * m + 16 * (a + (R.getD i (0, 0)).1) + (b + (R.getD i (0, 0)).2)) := by
        rw [show 256 * nI m = nI (256 * m) from pk_mul 256 m, show 16 * nI (a + (R.getD i (0, 0)).1) = nI (16 * (a + (R.getD i (0, 0)).1)) from pk_mul 16 _, nI_add, nI_add]
      have hlt : 256 * m + 16 * (a + (R.getD i (0, 0)).1) + (b + (R.getD i (0, 0)).2) < 1792 := by omega
      rw [E2, nI_clamp (show 256 * m + 16 * (a + (R.getD i (0, 0)).1) + (b + (R.getD i (0, 0)).2) < 2 ^ 31 by omega)]
      refine ⟨pk_in _ 1792 hlt, pk_in _ 1792 hlt, nm_e (nm_r (nI_1 _) (hw _ (fun y hy => ?_)))⟩
      by_cases c : y = 256 * m + 16 * (a + (R.getD i (0, 0)).1) + (b + (R.getD i (0, 0)).2)
      · rw [fw_hc_s ⟨z1, z2, c.symm⟩, ← c, pk_us, h y hy, fw_by]
      · rw [fw_hc_n (fun q => c q.2.2.symm), pk_un c]
        exact h y hy
theorem fw_count {R : Nat → List (Nat × Nat)} {l a b : Nat} (hl : l < 7) (ha : a ≤ 15) (hb' : b ≤ 15) (hR : fw_Rows a7 a8 R) (hb : ∀ l m, l < 7 → m < 7 → ∀ e, e ∈ R (7 * l + m) → e.1 ≤ 15 ∧ e.2 ≤ 15)
    {y1 y2 : Int32} (e1 : y1 = nI l) (e2 : y2 = nI (16 * a + b))
    (H : ∀ a10', (∀ y, y < 1792 → a10' y = a10 y + v * nI (fw_hm R l a b y 7)) → post (fl, ft, fg, a1, a2, a3, a4, a5, a6, a7, a8, a9, a10')) :
    wpX_count post (fl, ft, fg, a1, a2, a3, a4, a5, a6, a7, a8, a9, a10) y1 y2 v := by
  subst e1
  subst e2
  refine pk_loop (fun n m s => wX_count_3 post (nI l) (nI (16 * a + b)) v fl ft fg n (nI m) a1 a2 a3 a4 a5 a6 a7 a8 a9 s) (fun m s => ∀ y, y < 1792 → s y = a10 y + v * nI (fw_hm R l a b y m)) 7 0 a10 (Nat.zero_le _) ?_ ?_ ?_
  · intro y _
    show a10 y = a10 y + v * nI 0
    rw [nI_0]
    grind
  · intro n s h
    exact pk_le 7 7 (fun _ => H s h) (fun z => absurd z (by omega))
  · intro n m s hm h hw
    refine pk_le 7 m (fun z => absurd z (by omega)) (fun _ => ?_)
    refine nm_r (show 7 * nI l + nI m = nI (7 * l + m) by rw [show 7 * nI l = nI (7 * l) from pk_mul 7 l, nI_add]) (nm_r (show 19 * nI (7 * l + m) = nI (19 * (7 * l + m)) from pk_mul 19 _) ?_)
    obtain ⟨t1, t2, t3⟩ := hR (7 * l + m) (by omega)
    refine fw_26 (R := R (7 * l + m)) (by omega) hm ha hb' t2 t1 t3 (hb l m hl hm) (fun s' h' => hw s' (fun y hy => ?_))
    rw [h' y hy, h y hy]
    show _ = a10 y + v * nI (fw_hm R l a b y m + fw_hc (R (7 * l + m)) a b m y (R (7 * l + m)).length)
    rw [← nI_add]
    grind
end
end
section
/-! ===== rebuild ===== -/
def fw_hits (R : Nat → List (Nat × Nat)) (t i : Nat) : Nat := fw_hm R (t % 4) (t / 32) (t / 4 % 8) i 7
def fw_sum (R : Nat → List (Nat × Nat)) (tk : List Nat) (i : Nat) : Nat := (tk.map (fun t => fw_hits R t i)).sum
def fw_T (tk : List Nat) (ft : Int32) (a5 a6 : Nat → Int32) : Prop :=
  ft = nI tk.length ∧ tk.length ≤ 6 ∧ ∀ j, j < tk.length → tk.getD j 0 < 256 ∧ tk.getD j 0 % 4 < 3 ∧ a5 j = nI (tk.getD j 0 % 4) ∧ a6 j = nI (16 * (tk.getD j 0 / 32) + tk.getD j 0 / 4 % 8)
def fw_Ls (B : List Nat) (fl : Int32) (a1 a2 a3 a4 : Nat → Int32) : Prop :=
  fl = nI B.length ∧ B.length ≤ 5 ∧ fw_LB B ∧ ∀ j, j < B.length → a1 j = nI (fw_lf (B.getD j 0)) ∧ a2 j = nI (fw_lt (B.getD j 0)) ∧ a3 j = nI (fw_lp (B.getD j 0)) ∧ a4 j = nI (fw_lq (B.getD j 0))
def fw_M (R : Nat → List (Nat × Nat)) (tk : List Nat) (a10 : Nat → Int32) : Prop := ∀ y, y < 1792 → a10 y = nI (fw_sum R tk y)
theorem fw_tk {α : Type} {R : List α} {d : α} {i : Nat} (h : i < R.length) : R.take (i + 1) = R.take i ++ [R.getD i d] := by
  rw [List.getD_eq_getElem?_getD, List.getElem?_eq_getElem h]
  exact List.take_succ_eq_append_getElem h
theorem fw_sum_app (R : Nat → List (Nat × Nat)) (tk : List Nat) (t y : Nat) : fw_sum R (tk ++ [t]) y = fw_sum R tk y + fw_hits R t y := by
  unfold fw_sum
  rw [List.map_append, List.sum_append_nat]
  rfl
theorem fw_1m (x y : Nat) : nI x + 1 * nI y = nI (x + y) := by
  rw [← nI_add]
  grind
section
variable {post : St1 → Prop} {J : Int32 → Int32 → Int32 → Int32 → (Nat → Int32) → (Nat → Int32) → (Nat → Int32) → (Nat → Int32) → (Nat → Int32) → (Nat → Int32) → (Nat → Int32) → (Nat → Int32) → (Nat → Int32) → (Nat → Int32) → Prop} {fl ft fg : Int32} {a1 a2 a3 a4 a5 a6 a7 a8 a9 a10 : Nat → Int32}
theorem fw_167 {R : Nat → List (Nat × Nat)} {tk : List Nat} (hR : fw_Rows a7 a8 R) (hb : ∀ l m, l < 7 → m < 7 → ∀ e, e ∈ R (7 * l + m) → e.1 ≤ 15 ∧ e.2 ≤ 15) (hT : fw_T tk ft a5 a6) (h10 : ∀ y, y < 1792 → a10 y = 0)
    (H : ∀ a10', fw_M R tk a10' → post (fl, ft, fg, a1, a2, a3, a4, a5, a6, a7, a8, a9, a10')) :
    ∃ n, wX_rebuild_167 post n 0 fl ft fg a1 a2 a3 a4 a5 a6 a7 a8 a9 a10 := by
  obtain ⟨t1, t2, t3⟩ := hT
  subst t1
  refine pk_loop (fun n i s => wX_rebuild_167 post n (nI i) fl (nI tk.length) fg a1 a2 a3 a4 a5 a6 a7 a8 a9 s) (fun i s => fw_M R (tk.take i) s) tk.length 0 a10 (Nat.zero_le _) ?_ ?_ ?_
  · intro y hy
    rw [h10 y hy]
    rfl
  · intro n s h
    rw [List.take_length] at h
    exact pk_le tk.length tk.length (fun _ => H s h) (fun z => absurd z (by omega))
  · intro n i s hi h hw
    obtain ⟨q1, q2, q3, q4⟩ := t3 i hi
    refine pk_le tk.length i (fun z => absurd z (by omega)) (fun _ => ⟨pk_in i 20 (by omega), pk_in i 20 (by omega), ?_⟩)
    rw [nI_clamp (show i < 2 ^ 31 by omega)]
    refine fw_count (l := tk.getD i 0 % 4) (a := tk.getD i 0 / 32) (b := tk.getD i 0 / 4 % 8) (by omega) (by omega) (by omega) hR hb q3 q4 (fun s' h' => nm_r (nI_1 i) (hw s' (fun y hy => ?_)))
    rw [h' y hy, h y hy, fw_tk (d := 0) hi, fw_sum_app, fw_1m]
    rfl
theorem fw_145 {R : Nat → List (Nat × Nat)} {tk : List Nat} (hR : fw_Rows a7 a8 R) (hb : ∀ l m, l < 7 → m < 7 → ∀ e, e ∈ R (7 * l + m) → e.1 ≤ 15 ∧ e.2 ≤ 15) (hT : fw_T tk ft a5 a6)
    (H : ∀ a10', fw_M R tk a10' → post (fl, ft, fg, a1, a2, a3, a4, a5, a6, a7, a8, a9, a10')) :
    ∃ n, wX_rebuild_145 post fl ft fg n 0 a1 a2 a3 a4 a5 a6 a7 a8 a9 a10 := by
  refine pk_loop (fun n i s => wX_rebuild_145 post fl ft fg n (nI i) a1 a2 a3 a4 a5 a6 a7 a8 a9 s) (fun i s => ∀ y, y < i → s y = 0) 1792 0 a10 (Nat.zero_le _) ?_ ?_ ?_
  · intro y hy
    exact absurd hy (Nat.not_lt_zero _)
  · intro n s h
    exact pk_le 1792 1792 (fun _ => fw_167 hR hb hT h H) (fun z => absurd z (by omega))
  · intro n i s hi h hw
    refine pk_le 1792 i (fun z => absurd z (by omega)) (fun _ => ⟨pk_in i 1792 hi, ?_⟩)
    rw [nI_clamp (show i < 2 ^ 31 by omega)]
    refine nm_e (nm_r (nI_1 i) (hw _ (fun y hy => ?_)))
    by_cases c : y = i
    · rw [c, pk_us]
    · rw [pk_un c]
      exact h y (by omega)
theorem fw_Ph_K {B : List Nat} {R0 R : Nat → List (Nat × Nat)} {k r l m : Nat} (hB : fw_LB B) (h0 : fw_O B k R0) (h : fw_Ph R0 k r R) (hk : k < 7) (hl : l < 7) (hm : m < 7) (n1 : l ≠ k) (n2 : m ≠ k) (n3 : l ≠ m) : fw_K R (7 * l + m) (7 * l + k) (7 * k + m) := by
  have hO := fw_O_ph hB hk h0 h
  refine ⟨by omega, by omega, by omega, by omega, by omega, (hO l m hl hm).1, fun e he => fw_bd hO hl hm he, fun e1 e2 h1 h2 => ?_⟩
  rw [(h l k hl hk).2 (fun z => z.2.2.1 rfl)] at h1
  rw [(h k m hk hm).2 (fun z => z.2.1 rfl)] at h2
  obtain ⟨j, j1, j2⟩ := fw_two hB h0 hk hl hm n1 n2 n3 h1 h2
  have t := fw_W_bd B _ _ _ _ _ j2
  have u := fw_g_5 (k + 1) l m
  omega
theorem fw_Ph_s {R0 R : Nat → List (Nat × Nat)} {k l m : Nat} {T : List (Nat × Nat)} (h : fw_Ph R0 k (7 * l + m) R) (hk : k < 7) (hl : l < 7) (hm : m < 7)
    (h1 : l ≠ k ∧ m ≠ k ∧ l ≠ m → fw_J (R (7 * l + m)) (R (7 * l + k)) (R (7 * k + m)) (fun _ _ => True) T) (h2 : ¬ (l ≠ k ∧ m ≠ k ∧ l ≠ m) → T = R (7 * l + m)) : fw_Ph R0 k (7 * l + m + 1) (fun x => if x = 7 * l + m then T else R x) := by
  have e0 : R (7 * l + m) = R0 (7 * l + m) := (h l m hl hm).2 (fun z => absurd z.1 (by omega))
  have e1 : R (7 * l + k) = R0 (7 * l + k) := (h l k hl hk).2 (fun z => z.2.2.1 rfl)
  have e2 : R (7 * k + m) = R0 (7 * k + m) := (h k m hk hm).2 (fun z => z.2.1 rfl)
  rw [e0, e1, e2] at h1
  rw [e0] at h2
  intro l' m' hl' hm'
  dsimp only
  by_cases c : 7 * l' + m' = 7 * l + m
  · have c1 : l' = l := by omega
    have c2 : m' = m := by omega
    subst c1
    subst c2
    rw [if_pos rfl]
    exact ⟨fun z => h1 z.2, fun z => h2 (fun w => z ⟨by omega, w⟩)⟩
  · rw [if_neg c]
    exact ⟨fun z => (h l' m' hl' hm').1 ⟨by omega, z.2⟩, fun z => (h l' m' hl' hm').2 (fun w => z ⟨by omega, w.2⟩)⟩
theorem fw_119 {B : List Nat} {R0 : Nat → List (Nat × Nat)} {k : Nat} (hB : fw_LB B) (h0 : fw_O B k R0) (hk : k < 7) (hR : fw_Rows a7 a8 R0)
    (H : ∀ fg' a7' a8' a9' R, fw_Ph R0 k 49 R → fw_Rows a7' a8' R → J (nI (k + 1)) fl ft fg' a1 a2 a3 a4 a5 a6 a7' a8' a9' a10) :
    ∃ n, wX_rebuild_119 post J (nI k) n 0 fl ft fg a1 a2 a3 a4 a5 a6 a7 a8 a9 a10 := by
  refine pk_loop (fun n r (σ : Int32 × (Nat → Int32) × (Nat → Int32) × (Nat → Int32)) => wX_rebuild_119 post J (nI k) n (nI r) fl ft σ.1 a1 a2 a3 a4 a5 a6 σ.2.1 σ.2.2.1 σ.2.2.2 a10)
    (fun r σ => ∃ R, fw_Ph R0 k r R ∧ fw_Rows σ.2.1 σ.2.2.1 R) 49 0 (fg, a7, a8, a9) (Nat.zero_le _) ?_ ?_ ?_
  · exact ⟨R0, fun l m _ _ => ⟨fun z => absurd z.1 (Nat.not_lt_zero _), fun _ => rfl⟩, hR⟩
  · rintro n ⟨g, b7, b8, b9⟩ ⟨R, t1, t2⟩
    exact pk_le 49 49 (fun _ => nm_r (nI_1 k) (H _ _ _ _ R t1 t2)) (fun z => absurd z (by omega))
  · rintro n r ⟨g, b7, b8, b9⟩ hr ⟨R, t1, t2⟩ hw
    refine pk_le 49 r (fun z => absurd z (by omega)) (fun _ => ?_)
    obtain ⟨l, m, hl, hm, e⟩ : ∃ l m, l < 7 ∧ m < 7 ∧ r = 7 * l + m := ⟨r / 7, r % 7, by omega, by omega, by omega⟩
    subst e
    exact fw_joinOver hl hm hk t2 (fun n1 n2 n3 => fw_Ph_K hB h0 t1 hk hl hm n1 n2 n3) (fun fg' a7' a8' a9' T h1 h2 h3 => nm_r (nI_1 _) (hw (fg', a7', a8', a9') ⟨_, fw_Ph_s t1 hk hl hm h1 h2, h3⟩))
theorem fw_111 {B : List Nat} {R0 : Nat → List (Nat × Nat)} {tk : List Nat} (hB : fw_LB B) (h0 : fw_Y B 0 R0) (hR : fw_Rows a7 a8 R0) (hT : fw_T tk ft a5 a6)
    (H : ∀ fg' a7' a8' a9' a10' R, fw_F B R → fw_Rows a7' a8' R → fw_M R tk a10' → post (fl, ft, fg', a1, a2, a3, a4, a5, a6, a7', a8', a9', a10')) :
    ∃ n, wX_rebuild_111 post n 0 fl ft fg a1 a2 a3 a4 a5 a6 a7 a8 a9 a10 := by
  refine pk_loop (fun n k (σ : Int32 × (Nat → Int32) × (Nat → Int32) × (Nat → Int32)) => wX_rebuild_111 post n (nI k) fl ft σ.1 a1 a2 a3 a4 a5 a6 σ.2.1 σ.2.2.1 σ.2.2.2 a10)
    (fun k σ => ∃ R, fw_Y B k R ∧ fw_Rows σ.2.1 σ.2.2.1 R) 7 0 (fg, a7, a8, a9) (Nat.zero_le _) ⟨R0, h0, hR⟩ ?_ ?_
  · rintro n ⟨g, b7, b8, b9⟩ ⟨R, t1, t2⟩
    exact pk_le 7 7 (fun _ => fw_145 t2 (fun l m hl hm e he => fw_bd t1.1 hl hm he) hT (fun a10' h => H _ _ _ _ _ R (fw_Y_F hB t1) t2 h)) (fun z => absurd z (by omega))
  · rintro n k ⟨g, b7, b8, b9⟩ hk ⟨R, t1, t2⟩ hw
    refine pk_le 7 k (fun z => absurd z (by omega)) (fun _ => ?_)
    exact fw_119 hB t1.1 hk t2 (fun fg' a7' a8' a9' R' h1 h2 => hw (fg', a7', a8', a9') ⟨R', fw_Y_ph hB hk t1 h1, h2⟩)
/-- the lines below c are added -/
def fw_X (B : List Nat) (c : Nat) (R : Nat → List (Nat × Nat)) : Prop :=
  fw_O B 0 R ∧ (∀ l, l < 7 → fw_D R l l 0 0) ∧ ∀ i, i < c → fw_D R (fw_lf (B.getD i 0)) (fw_lt (B.getD i 0)) (fw_lp (B.getD i 0)) (fw_lq (B.getD i 0))
theorem fw_44 {B : List Nat} {R0 : Nat → List (Nat × Nat)} {tk : List Nat} (h0 : fw_X B 0 R0) (hR : fw_Rows a7 a8 R0) (hL : fw_Ls B fl a1 a2 a3 a4) (hT : fw_T tk ft a5 a6)
    (H : ∀ fg' a7' a8' a9' a10' R, fw_F B R → fw_Rows a7' a8' R → fw_M R tk a10' → post (fl, ft, fg', a1, a2, a3, a4, a5, a6, a7', a8', a9', a10')) :
    ∃ n, wX_rebuild_44 post n 0 fl ft fg a1 a2 a3 a4 a5 a6 a7 a8 a9 a10 := by
  obtain ⟨l1, l2, hB, l4⟩ := hL
  subst l1
  refine pk_loop (fun n i (σ : Int32 × (Nat → Int32) × (Nat → Int32) × (Nat → Int32)) => wX_rebuild_44 post n (nI i) (nI B.length) ft σ.1 a1 a2 a3 a4 a5 a6 σ.2.1 σ.2.2.1 σ.2.2.2 a10)
    (fun i σ => ∃ R, fw_X B i R ∧ fw_Rows σ.2.1 σ.2.2.1 R) B.length 0 (fg, a7, a8, a9) (Nat.zero_le _) ⟨R0, h0, hR⟩ ?_ ?_
  · rintro n ⟨g, b7, b8, b9⟩ ⟨R, t1, t2⟩
    exact pk_le B.length B.length (fun _ => fw_111 hB ⟨t1.1, fun j l m p q p' q' hj => absurd hj (Nat.not_lt_zero _), t1.2.1, t1.2.2⟩ t2 hT H) (fun z => absurd z (by omega))
  · rintro n i ⟨g, b7, b8, b9⟩ hi ⟨R, t1, t2⟩ hw
    obtain ⟨q1, q2, q3, q4⟩ := l4 i hi
    obtain ⟨p0, p1, p2⟩ := hB i hi
    refine pk_le B.length i (fun z => absurd z (by omega)) (fun _ => ⟨pk_in i 12 (by omega), pk_in i 12 (by omega), ?_⟩)
    dsimp only
    rw [nI_clamp (show i < 2 ^ 31 by omega), q1, q2, q3, q4]
    refine pk_eq (fw_lf (B.getD i 0)) (fw_lt (B.getD i 0)) (fun z => nm_r (nI_1 i) (hw (g, b7, b8, b9) ⟨R, ⟨t1.1, t1.2.1, fun j hj => ?_⟩, t2⟩)) (fun z => ⟨pk_in i 12 (by omega), pk_in i 12 (by omega), pk_in i 12 (by omega), pk_in i 12 (by omega), ?_⟩)
    · by_cases c : j = i
      · rw [c, z]
        exact fw_D_mono (t1.2.1 _ (by omega)) (Nat.zero_le _) (Nat.zero_le _)
      · exact t1.2.2 j (by omega)
    · have w1 := fw_W_1 hi
      have w2 := fw_W_bd B _ _ _ _ _ w1
      refine fw_addSum (R := R) (r := 7 * fw_lf (B.getD i 0) + fw_lt (B.getD i 0)) (s := (fw_lp (B.getD i 0), fw_lq (B.getD i 0))) (by omega) t2 (t1.1 _ _ (by omega) (by omega)).1 (fun e he => fw_bd t1.1 (by omega) (by omega) he) ⟨by dsimp only; omega, by dsimp only; omega⟩ ?_ ?_ ?_
      · rw [show 7 * nI (fw_lf (B.getD i 0)) = nI (7 * fw_lf (B.getD i 0)) from pk_mul 7 _, nI_add]
      · rw [show 64 * nI (fw_lp (B.getD i 0)) = nI (64 * fw_lp (B.getD i 0)) from pk_mul 64 _, nI_add]
        rfl
      · intro fg' a7' a8' a9' T hP hR'
        refine nm_r (nI_1 i) (hw (fg', a7', a8', a9') ⟨_, ⟨fw_O_add t1.1 (by omega) (by omega) w1 hP, fun l hl => fw_D_add hP (t1.2.1 l hl), fun j hj => ?_⟩, hR'⟩)
        by_cases c : j = i
        · obtain ⟨e, u1, u2, u3⟩ := hP.2.2.2
          refine ⟨e, ?_, by rw [c]; exact u2, by rw [c]; exact u3⟩
          dsimp only
          rw [c, if_pos rfl]
          exact u1
        · exact fw_D_add hP (t1.2.2 j (by omega))
/-- the rows at the start -/
def fw_R0 (x : Nat) : List (Nat × Nat) := if x % 8 = 0 then [(0, 0)] else []
theorem fw_X_0 (B : List Nat) : fw_X B 0 fw_R0 := by
  refine ⟨fun l m hl hm => ?_, fun l hl => ?_, fun i hi => absurd hi (Nat.not_lt_zero _)⟩
  · unfold fw_R0
    by_cases c : (7 * l + m) % 8 = 0
    · rw [if_pos c]
      refine ⟨List.pairwise_singleton _ _, fun e he => ⟨0, Nat.zero_le _, ?_⟩⟩
      rw [List.mem_singleton.mp he]
      exact ⟨by omega, rfl, rfl⟩
    · rw [if_neg c]
      exact ⟨List.Pairwise.nil, fun e he => absurd he List.not_mem_nil⟩
  · refine ⟨(0, 0), ?_, Nat.le_refl _, Nat.le_refl _⟩
    unfold fw_R0
    rw [if_pos (by omega)]
    exact List.mem_singleton.mpr rfl
theorem fw_rebuild {B : List Nat} {tk : List Nat} (hL : fw_Ls B fl a1 a2 a3 a4) (hT : fw_T tk ft a5 a6)
    (H : ∀ fg' a7' a8' a9' a10' R, fw_F B R → fw_Rows a7' a8' R → fw_M R tk a10' → post (fl, ft, fg', a1, a2, a3, a4, a5, a6, a7', a8', a9', a10')) :
    wpX_rebuild post (fl, ft, fg, a1, a2, a3, a4, a5, a6, a7, a8, a9, a10) := by
  refine pk_loop (fun n i (σ : (Nat → Int32) × (Nat → Int32)) => wX_rebuild_2 post fl ft fg n (nI i) a1 a2 a3 a4 a5 a6 σ.1 σ.2 a9 a10)
    (fun i σ => ∀ x, x < i → σ.1 x = nI (fw_R0 x).length ∧ σ.2 (19 * x) = 0) 49 0 (a7, a8) (Nat.zero_le _) (fun x hx => absurd hx (Nat.not_lt_zero _)) ?_ ?_
  · rintro n ⟨b7, b8⟩ h
    refine pk_le 49 49 (fun _ => fw_44 (fw_X_0 B) (R0 := fw_R0) (fun x hx => ?_) hL hT H) (fun z => absurd z (by omega))
    have t := h x hx
    refine ⟨?_, t.1, fun i hi => ?_⟩
    · unfold fw_R0
      split
      · exact (by decide : 1 ≤ 19)
      · exact Nat.zero_le _
    · have e : fw_R0 x = [(0, 0)] := by
        unfold fw_R0 at hi ⊢
        by_cases c : x % 8 = 0
        · rw [if_pos c]
        · rw [if_neg c] at hi
          exact absurd hi (Nat.not_lt_zero _)
      rw [e] at hi ⊢
      have hi0 : i = 0 := Nat.lt_one_iff.mp hi
      subst hi0
      exact t.2
  · rintro n i ⟨b7, b8⟩ hi h hw
    have d : nI i - nI i / 8 * 8 = nI (i % 8) := pk_rem (a := i) (d := 8) (by omega) (by omega) (by omega)
    have G : ∀ z : Int32, z = nI (fw_R0 i).length → wX_rebuild_25 post (wX_rebuild_2 post fl ft fg n) (nI i) z (nI i) fl ft fg a1 a2 a3 a4 a5 a6 b7 b8 a9 a10 := by
      intro z hz
      unfold wX_rebuild_25
      rw [show 19 * nI i = nI (19 * i) from pk_mul 19 i, nI_clamp (show i < 2 ^ 31 by omega), nI_clamp (show 19 * i < 2 ^ 31 by omega)]
      refine ⟨pk_in i 49 hi, nm_e ⟨pk_in (19 * i) 931 (by omega), nm_e (nm_r (nI_1 i) (hw (upd b7 i z, upd b8 (19 * i) 0) (fun x hx => ?_)))⟩⟩
      dsimp only
      by_cases c : x = i
      · rw [c, pk_us, pk_us]
        exact ⟨hz, rfl⟩
      · rw [pk_un c, pk_un (by omega)]
        exact h x (by omega)
    refine pk_le 49 i (fun z => absurd z (by omega)) (fun _ => ⟨by decide, ?_⟩)
    rw [d]
    refine pk_eq (i % 8) 0 (fun z => G 1 ?_) (fun z => G 0 ?_)
    · unfold fw_R0
      rw [if_pos z]
      rfl
    · unfold fw_R0
      rw [if_neg z]
      rfl
end
end
section
/-! ===== pasted from laws/BITS.to-paste (wb_, pf_) ===== -/
theorem wb_tb (n : Nat) : (lN n).toBitVec = BitVec.ofNat 64 n := rfl
theorem wb_inj {a b : Int64} (h : a.toBitVec = b.toBitVec) : a = b := Int64.toBitVec_inj.mp h
theorem wb_tn {n : Nat} (h : n < 2 ^ 64) : (lN n).toBitVec.toNat = n := by rw [wb_tb, BitVec.toNat_ofNat, Nat.mod_eq_of_lt h]
theorem wb_c : ∀ k, k < 64 → ((nI k).toInt64 &&& 63) = lN k := by decide +kernel
theorem wb_cu : ∀ k, k < 64 → ((nI k).toInt64.toUInt64 &&& Int64.toUInt64 63) = UInt64.ofNat k := by decide +kernel
theorem wb_sm : ∀ k, k < 64 → (BitVec.ofNat 64 k).smod 64 = BitVec.ofNat 64 k := by decide +kernel
theorem wb_lt2 {a b : Nat} (h : a < b) : 2 ^ a < 2 ^ b := Nat.pow_lt_pow_right (by decide) h
theorem wb_shr {n k : Nat} (hn : n < 2 ^ 64) (hk : k < 64) : ((lN n).toUInt64 >>> ((nI k).toInt64.toUInt64 &&& Int64.toUInt64 63)).toInt64 = lN (n / 2 ^ k) := by
  rw [wb_cu k hk]
  apply wb_inj
  apply BitVec.eq_of_toNat_eq
  show ((lN n).toUInt64 >>> UInt64.ofNat k).toNat = (BitVec.ofNat 64 _).toNat
  have h1 : (UInt64.ofNat k).toNat = k := by
    show (BitVec.ofNat 64 k).toNat = k
    rw [BitVec.toNat_ofNat, Nat.mod_eq_of_lt (by omega)]
  have h2 : (lN n).toUInt64.toNat = n := wb_tn hn
  rw [UInt64.toNat_shiftRight, h1, h2, Nat.mod_eq_of_lt hk, Nat.shiftRight_eq_div_pow, BitVec.toNat_ofNat, Nat.mod_eq_of_lt (Nat.lt_of_le_of_lt (Nat.div_le_self _ _) hn)]
theorem wb_shl (n : Nat) {k : Nat} (hk : k < 64) : lN n <<< ((nI k).toInt64 &&& 63) = lN (n * 2 ^ k) := by
  rw [wb_c k hk]
  apply wb_inj
  rw [Int64.toBitVec_shiftLeft, wb_tb, wb_tb, wb_tb, wb_sm k hk]
  apply BitVec.eq_of_toNat_eq
  rw [BitVec.shiftLeft_eq', BitVec.toNat_shiftLeft, BitVec.toNat_ofNat, BitVec.toNat_ofNat, BitVec.toNat_ofNat, Nat.mod_eq_of_lt (show k < 2 ^ 64 by omega), Nat.shiftLeft_eq, Nat.mul_mod, Nat.mod_mod, ← Nat.mul_mod]
theorem wb_and {a b : Nat} (ha : a < 2 ^ 64) (hb : b < 2 ^ 64) : lN a &&& lN b = lN (a &&& b) := by
  apply wb_inj
  rw [Int64.toBitVec_and, wb_tb, wb_tb, wb_tb]
  apply BitVec.eq_of_toNat_eq
  rw [BitVec.toNat_and, BitVec.toNat_ofNat, BitVec.toNat_ofNat, BitVec.toNat_ofNat, Nat.mod_eq_of_lt ha, Nat.mod_eq_of_lt hb, Nat.mod_eq_of_lt (Nat.and_lt_two_pow _ hb)]
theorem wb_or {a b : Nat} (ha : a < 2 ^ 64) (hb : b < 2 ^ 64) : lN a ||| lN b = lN (a ||| b) := by
  apply wb_inj
  rw [Int64.toBitVec_or, wb_tb, wb_tb, wb_tb]
  apply BitVec.eq_of_toNat_eq
  rw [BitVec.toNat_or, BitVec.toNat_ofNat, BitVec.toNat_ofNat, BitVec.toNat_ofNat, Nat.mod_eq_of_lt ha, Nat.mod_eq_of_lt hb, Nat.mod_eq_of_lt (Nat.or_lt_two_pow ha hb)]
theorem wb_mask {n k : Nat} (hn : n < 2 ^ 64) (hk : k < 64) : lN n &&& lN (2 ^ k - 1) = lN (n % 2 ^ k) := by
  rw [wb_and hn (by have := wb_lt2 hk; omega), Nat.and_two_pow_sub_one_eq_mod]
theorem wb_a1 {n : Nat} (hn : n < 2 ^ 64) : lN n &&& 1 = lN (n % 2) := wb_mask (k := 1) hn (by decide)
theorem pf_lI {a : Nat} (h : a < 2 ^ 63) : (lN a).toInt = (a : Int) := lg_ofNat_toInt h
theorem pf_shr {a d : Nat} {D : Int64} (hD : (D.toBitVec.smod 64).toNat = d) (h : a < 2 ^ 62) : lN a >>> D = lN (a / 2 ^ d) := by
  have hd : a / 2 ^ d ≤ a := Nat.div_le_self _ _
  apply Int64.toInt_inj.mp
  have e : (lN a >>> D).toInt = (lN a).toInt >>> d := by
    rw [← hD]
    exact BitVec.toInt_sshiftRight ..
  rw [e, Int.shiftRight_eq_div_pow, pf_lI (by omega), pf_lI (by omega)]
  rfl
/-! ===== a long as a set of bits ===== -/
def fw_b (x : Int64) (t : Nat) : Prop := x.toBitVec.getLsbD t = true
theorem fw_b_0 (t : Nat) : ¬ fw_b 0 t := by
  unfold fw_b
  show ¬ (0#64).getLsbD t = true
  simp
theorem fw_b_or (x y : Int64) (t : Nat) : fw_b (x ||| y) t ↔ fw_b x t ∨ fw_b y t := by
  unfold fw_b
  rw [Int64.toBitVec_or, BitVec.getLsbD_or, Bool.or_eq_true]
theorem fw_b_1 {k : Nat} (hk : k < 64) (t : Nat) : fw_b ((1 : Int64) <<< ((nI k).toInt64 &&& 63)) t ↔ t = k := by
  have e : (1 : Int64) <<< ((nI k).toInt64 &&& 63) = lN (1 * 2 ^ k) := wb_shl 1 hk
  unfold fw_b
  rw [e, wb_tb, Nat.one_mul, BitVec.getLsbD_ofNat, Nat.testBit_two_pow]
  constructor
  · intro h
    simp at h
    exact h.2.symm
  · intro h
    simp [h, hk]
theorem fw_b_t {x : Int64} {t : Nat} (ht : t < 64) : ((x >>> ((nI t).toInt64 &&& 63)) &&& 1) = 1 ↔ fw_b x t := by
  unfold fw_b
  rw [wb_c t ht, ← Int64.toBitVec_inj, Int64.toBitVec_and, Int64.toBitVec_shiftRight]
  have e : (lN t).toBitVec.smod (64 : BitVec 64) = BitVec.ofNat 64 t := wb_sm t ht
  have e2 : x.toBitVec.sshiftRight' ((lN t).toBitVec.smod (64 : BitVec 64)) = x.toBitVec.sshiftRight t := by
    rw [e]
    show x.toBitVec.sshiftRight (BitVec.ofNat 64 t).toNat = _
    rw [BitVec.toNat_ofNat, Nat.mod_eq_of_lt (by omega)]
  have e3 : ∀ y : BitVec 64, (y &&& 1#64 = 1#64) ↔ y.getLsbD 0 = true := by
    intro y
    constructor
    · intro h
      have t := congrArg (fun z => z.getLsbD 0) h
      simpa using t
    · intro h
      apply BitVec.eq_of_getLsbD_eq
      intro i hi
      cases i with
      | zero => simp [h]
      | succ i => simp
  rw [show (x.toBitVec.sshiftRight' ((lN t).toBitVec.smod (64 : BitVec 64)) &&& (1 : Int64).toBitVec = (1 : Int64).toBitVec) = (x.toBitVec.sshiftRight t &&& 1#64 = 1#64) from by rw [e2]; rfl]
  rw [e3, BitVec.getLsbD_sshiftRight]
  simp [ht]
/-! ===== bytes packed into a long ===== -/
def fw_pk : List Nat → Nat
  | [] => 0
  | b :: bs => b + 256 * fw_pk bs
theorem fw_pk_app : ∀ (xs ys : List Nat), fw_pk (xs ++ ys) = fw_pk xs + 256 ^ xs.length * fw_pk ys := by
  intro xs
  induction xs with
  | nil =>
    intro ys
    show fw_pk ys = 0 + 1 * fw_pk ys
    omega
  | cons x xs ih =>
    intro ys
    show x + 256 * fw_pk (xs ++ ys) = x + 256 * fw_pk xs + 256 ^ (xs.length + 1) * fw_pk ys
    rw [ih ys, Nat.pow_succ, Nat.mul_add, Nat.mul_comm (256 ^ xs.length) 256, Nat.mul_assoc]
    omega
def fw_By (ls : List Nat) : Prop := ∀ j, j < ls.length → ls.getD j 0 < 256
theorem fw_By_m {ls : List Nat} (h : fw_By ls) {b : Nat} (hb : b ∈ ls) : b < 256 := by
  obtain ⟨i, i1, i2⟩ := fw_mg 0 hb
  rw [← i2]
  exact h i i1
theorem fw_By_i {ls : List Nat} (h : ∀ b, b ∈ ls → b < 256) : fw_By ls := fun _ hj => h _ (fw_gm hj)
theorem fw_By_c {b : Nat} {bs : List Nat} (h : fw_By (b :: bs)) : b < 256 ∧ fw_By bs := ⟨fw_By_m h (List.mem_cons_self ..), fw_By_i (fun x hx => fw_By_m h (List.mem_cons_of_mem _ hx))⟩
theorem fw_pk_lt : ∀ (ls : List Nat), fw_By ls → fw_pk ls < 256 ^ ls.length := by
  intro ls
  induction ls with
  | nil =>
    intro _
    exact (by decide : 0 < 1)
  | cons b bs ih =>
    intro h
    have t := fw_By_c h
    have u := ih t.2
    show b + 256 * fw_pk bs < 256 ^ (bs.length + 1)
    rw [Nat.pow_succ]
    omega
theorem fw_pk_get : ∀ (ls : List Nat), fw_By ls → ∀ i, fw_pk ls / 256 ^ i % 256 = ls.getD i 0 := by
  intro ls
  induction ls with
  | nil =>
    intro _ i
    show 0 / 256 ^ i % 256 = 0
    rw [Nat.zero_div]
  | cons b bs ih =>
    intro h i
    have t := fw_By_c h
    cases i with
    | zero =>
      show (b + 256 * fw_pk bs) / 1 % 256 = b
      have := t.1
      omega
    | succ i =>
      show (b + 256 * fw_pk bs) / 256 ^ (i + 1) % 256 = bs.getD i 0
      rw [← ih t.2 i, Nat.pow_succ, Nat.mul_comm (256 ^ i) 256, ← Nat.div_div_eq_div_mul]
      have := t.1
      rw [show (b + 256 * fw_pk bs) / 256 = fw_pk bs by omega]
theorem fw_256 {n : Nat} (h : n ≤ 6) : 256 ^ n ≤ 2 ^ 48 := by
  have := Nat.pow_le_pow_right (show 0 < 256 by decide) h
  exact Nat.le_trans this (by decide)
theorem fw_p48 {ls : List Nat} (h : fw_By ls) (hl : ls.length ≤ 6) : fw_pk ls < 2 ^ 48 := Nat.lt_of_lt_of_le (fw_pk_lt ls h) (fw_256 hl)
theorem fw_2p (i : Nat) : 2 ^ (8 * i) = 256 ^ i := by rw [Nat.pow_mul]
theorem fw_byte {ls : List Nat} (h : fw_By ls) (hl : ls.length ≤ 6) {i : Nat} (hi : i < 8) : ((lN (fw_pk ls) >>> ((8 * nI i).toInt64 &&& 63)).toInt32) &&& 255 = nI (ls.getD i 0) := by
  have hp := fw_p48 h hl
  have e : (8 : Int32) * nI i = nI (8 * i) := pk_mul 8 i
  have e2 : (((lN (8 * i)).toBitVec).smod 64).toNat = 8 * i := by
    rw [wb_tb, wb_sm _ (by omega), BitVec.toNat_ofNat, Nat.mod_eq_of_lt (by omega)]
  rw [e, wb_c _ (by omega), pf_shr e2 (by omega), lN_i, pk_and _ 8 (by decide), fw_2p, ← fw_pk_get ls h i]
  have e3 : (nI (fw_pk ls / 256 ^ i)).toBitVec.toNat = fw_pk ls / 256 ^ i % 2 ^ 32 := by
    show (BitVec.ofNat 32 _).toNat = _
    rw [BitVec.toNat_ofNat]
  rw [e3]
  congr 1
  omega
/-! ===== find ===== -/
theorem fw_find {post : Int32 → Prop} {tl : List Nat} {tok : Nat} (hb : fw_By tl) (hl : tl.length ≤ 6) (ht : tok < 256) (H1 : ∀ i, i < tl.length → tl.getD i 0 = tok → post (nI i)) (H0 : tok ∉ tl → post (-1)) :
    wpL_find post () (lN (fw_pk tl)) (nI tl.length) (nI tok) := by
  refine pk_loop (σ := Unit) (fun n i _ => wL_find_3 post (lN (fw_pk tl)) (nI tl.length) (nI tok) n (nI i)) (fun i _ => ∀ j, j < i → tl.getD j 0 ≠ tok) tl.length 0 () (Nat.zero_le _) (fun j hj => absurd hj (Nat.not_lt_zero _)) ?_ ?_
  · intro n _ h
    refine pk_le tl.length tl.length (fun _ => H0 (fun hm => ?_)) (fun z => absurd z (by omega))
    obtain ⟨i, i1, i2⟩ := fw_mg 0 hm
    exact h i i1 i2
  · intro n i _ hi h hw
    have hx := hb i hi
    refine pk_le tl.length i (fun z => absurd z (by omega)) (fun _ => ?_)
    rw [fw_byte hb hl (by omega)]
    refine pk_eq (tl.getD i 0) tok (fun z => H1 i hi z) (fun z => nm_r (nI_1 i) (hw () (fun j hj => ?_)))
    by_cases c : j = i
    · rw [c]
      exact z
    · exact h j (by omega)
/-! ===== below ===== -/
def fw_Be (x : Int64) (a b : Nat) : Prop := ∃ t, t < 64 ∧ fw_b x t ∧ t / 8 ≤ a ∧ t % 8 ≤ b
theorem fw_below {post : Int32 → Prop} {x : Int64} {a b : Nat} (ha : a < 64) (hb : b < 64) (H1 : fw_Be x a b → post 1) (H0 : ¬ fw_Be x a b → post 0) : wpL_below post () x (nI a) (nI b) := by
  refine pk_loop (σ := Unit) (fun n i _ => wL_below_3 post x (nI a) (nI b) n (nI i)) (fun i _ => ∀ t, t < i → ¬ (fw_b x t ∧ t / 8 ≤ a ∧ t % 8 ≤ b)) 64 0 () (Nat.zero_le _) (fun j hj => absurd hj (Nat.not_lt_zero _)) ?_ ?_
  · intro n _ h
    exact pk_le 64 64 (fun _ => H0 (fun ⟨t, t1, t2⟩ => h t t1 t2)) (fun z => absurd z (by omega))
  · intro n i _ hi h hw
    have N : ¬ (fw_b x i ∧ i / 8 ≤ a ∧ i % 8 ≤ b) → ∀ y : Int32, y = nI i + 1 → wL_below_3 post x (nI a) (nI b) n y := fun hn => nm_r (nI_1 i) (hw () (fun t ht hh => by
      by_cases c : t = i
      · rw [c] at hh
        exact hn hh
      · exact h t (by omega) hh))
    have d1 : nI i / 8 = nI (i / 8) := pk_div (a := i) (d := 8) (by omega) (by omega) (by omega)
    have d2 : nI i - nI i / 8 * 8 = nI (i % 8) := pk_rem (a := i) (d := 8) (by omega) (by omega) (by omega)
    refine pk_le 64 i (fun z => absurd z (by omega)) (fun _ => ek_if (fw_b_t hi) (fun hbit => ⟨by decide, ?_⟩) (fun hbit => N (fun z => hbit z.1)))
    rw [d2, d1]
    exact pk_lt a (i / 8) (fun z => N (fun w => by omega)) (fun z1 => ⟨by decide, pk_lt b (i % 8) (fun z => N (fun w => by omega)) (fun z2 => H1 ⟨i, hi, hbit, z1, z2⟩)⟩)
/-! ===== moved ===== -/
def fw_mv (x : Int64) (p q n t : Nat) : Prop := ∃ t', t' < n ∧ fw_b x t' ∧ t' / 8 + p < 8 ∧ t' % 8 + q < 8 ∧ t = 8 * (t' / 8 + p) + (t' % 8 + q)
theorem fw_mv_n {x : Int64} {p q n t : Nat} (h : ¬ (fw_b x n ∧ n / 8 + p < 8 ∧ n % 8 + q < 8)) : fw_mv x p q (n + 1) t ↔ fw_mv x p q n t := by
  constructor
  · rintro ⟨t', h1, h2, h3, h4, h5⟩
    refine ⟨t', ?_, h2, h3, h4, h5⟩
    by_cases c : t' = n
    · rw [c] at h2 h3 h4
      exact absurd ⟨h2, h3, h4⟩ h
    · omega
  · rintro ⟨t', h1, h2⟩
    exact ⟨t', by omega, h2⟩
theorem fw_mv_s {x : Int64} {p q n t : Nat} (h : fw_b x n ∧ n / 8 + p < 8 ∧ n % 8 + q < 8) : fw_mv x p q (n + 1) t ↔ fw_mv x p q n t ∨ t = 8 * (n / 8 + p) + (n % 8 + q) := by
  constructor
  · rintro ⟨t', h1, h2, h3, h4, h5⟩
    by_cases c : t' = n
    · rw [c] at h5
      exact Or.inr h5
    · exact Or.inl ⟨t', by omega, h2, h3, h4, h5⟩
  · rintro (⟨t', h1, h2⟩ | h')
    · exact ⟨t', by omega, h2⟩
    · exact ⟨n, by omega, h.1, h.2.1, h.2.2, h'⟩
theorem fw_moved {post : Int64 → Prop} {x : Int64} {p q : Nat} (hp : p ≤ 3) (hq : q ≤ 3) (H : ∀ r, (∀ t, fw_b r t ↔ fw_mv x p q 64 t) → post r) : wpL_moved post () x (nI p) (nI q) := by
  refine pk_loop (fun n i s => wL_moved_6 post x (nI p) (nI q) n s (nI i)) (fun i s => ∀ t, fw_b s t ↔ fw_mv x p q i t) 64 0 (0 : Int64) (Nat.zero_le _) ?_ ?_ ?_
  · intro t
    exact ⟨fun h => absurd h (fw_b_0 t), fun ⟨t', h1, _⟩ => absurd h1 (Nat.not_lt_zero _)⟩
  · intro n s h
    exact pk_le 64 64 (fun _ => H s h) (fun z => absurd z (by omega))
  · intro n i s hi h hw
    have N : ¬ (fw_b x i ∧ i / 8 + p < 8 ∧ i % 8 + q < 8) → ∀ y : Int32, y = nI i + 1 → wL_moved_6 post x (nI p) (nI q) n s y := fun hn => nm_r (nI_1 i) (hw s (fun t => by rw [fw_mv_n hn]; exact h t))
    have d1 : nI i / 8 = nI (i / 8) := pk_div (a := i) (d := 8) (by omega) (by omega) (by omega)
    have d2 : nI i - nI i / 8 * 8 = nI (i % 8) := pk_rem (a := i) (d := 8) (by omega) (by omega) (by omega)
    refine pk_le 64 i (fun z => absurd z (by omega)) (fun _ => ⟨by decide, ?_⟩)
    rw [d2, d1, nI_add, nI_add]
    refine nm_e ⟨by decide, nm_e (ek_if (fw_b_t hi) (fun hbit => ?_) (fun hbit => N (fun z => hbit z.1)))⟩
    refine pk_le 8 (i / 8 + p) (fun z => N (fun w => by omega)) (fun z1 => pk_le 8 (i % 8 + q) (fun z => N (fun w => by omega)) (fun z2 => ?_))
    rw [show 8 * nI (i / 8 + p) = nI (8 * (i / 8 + p)) from pk_mul 8 _, nI_add]
    refine nm_e (nm_r (nI_1 i) (hw _ (fun t => ?_)))
    rw [fw_b_or, fw_b_1 (by omega), fw_mv_s ⟨hbit, z1, z2⟩, h t]
end
section
/-! ===== spread: one round, then sixty ===== -/
def fw_sel (m : Nat) (u v w : Int64) : Int64 := if m = 0 then u else if m = 1 then v else w
theorem fw_sel0 (u v w : Int64) : fw_sel 0 u v w = u := rfl
theorem fw_sel1 (u v w : Int64) : fw_sel 1 u v w = v := rfl
theorem fw_sel2 (u v w : Int64) : fw_sel 2 u v w = w := rfl
/-- one round over the line c -/
def fw_Rd (c : Nat) (u v w u' v' w' : Int64) : Prop :=
  ∀ m, m < 3 → ∀ t, fw_b (fw_sel m u' v' w') t ↔ fw_b (fw_sel m u v w) t ∨ (m = fw_lt c ∧ fw_mv (fw_sel (fw_lf c) u v w) (fw_lp c) (fw_lq c) 64 t)
theorem fw_3 {P : Nat → Prop} (h0 : P 0) (h1 : P 1) (h2 : P 2) : ∀ m, m < 3 → P m := fun m hm => by
  have : m = 0 ∨ m = 1 ∨ m = 2 := by omega
  rcases this with e | e | e
  · rw [e]
    exact h0
  · rw [e]
    exact h1
  · rw [e]
    exact h2
theorem fw_or_f {a b : Prop} (h : ¬ b) : a ↔ a ∨ b := ⟨Or.inl, fun z => z.elim id (fun w => absurd w h)⟩
section
variable {post : Int64 → Prop} {J : Int64 → Int64 → Int64 → Int32 → Prop} {x0 : Int64} {x2 x3 : Int32}
theorem fw_s48 {c r : Nat} {u v w : Int64} (hc : c < 256) (h1 : fw_lf c < 3) (h2 : fw_lt c < 3) (H : ∀ u' v' w', fw_Rd c u v w u' v' w' → J u' v' w' (nI (r + 1))) : wL_spread_48 post J x0 x2 x3 u v w (nI r) (nI c) := by
  have m1 : nI c &&& 3 = nI (fw_lf c) := pk_andN (n := c) (by omega) (m := 3) 2 (by decide)
  have m2 : (nI c >>> ((2 : Int32) &&& 31)) &&& 3 = nI (fw_lt c) := by
    rw [pk_shrN (n := c) (by omega) ((2 : Int32) &&& 31) 2 (by decide)]
    exact pk_andN (n := c / 4) (by omega) (m := 3) 2 (by decide)
  have m3 : (nI c >>> ((4 : Int32) &&& 31)) &&& 3 = nI (fw_lp c) := by
    rw [pk_shrN (n := c) (by omega) ((4 : Int32) &&& 31) 4 (by decide)]
    exact pk_andN (n := c / 16) (by omega) (m := 3) 2 (by decide)
  have m4 : nI c >>> ((6 : Int32) &&& 31) = nI (fw_lq c) := by
    rw [pk_shrN (n := c) (by omega) ((6 : Int32) &&& 31) 6 (by decide)]
    rw [show c / 2 ^ 6 = fw_lq c from by unfold fw_lq; omega]
  have hp : fw_lp c ≤ 3 := by unfold fw_lp; omega
  have hq : fw_lq c ≤ 3 := by unfold fw_lq; omega
  have G : wL_spread_87 post J x0 x2 x3 u v w (nI r) (nI c) (nI (fw_lt c)) (fw_sel (fw_lf c) u v w) := by
    unfold wL_spread_87
    rw [m3, m4]
    refine fw_moved hp hq (fun on hon => ?_)
    have h2' : fw_lt c = 0 ∨ fw_lt c = 1 ∨ fw_lt c = 2 := by omega
    rcases h2' with e | e | e
    · refine pk_eq (fw_lt c) 0 (fun _ => ?_) (fun z => absurd e z)
      refine pk_eq (fw_lt c) 1 (fun z => absurd z (by omega)) (fun _ => ?_)
      refine pk_eq (fw_lt c) 2 (fun z => absurd z (by omega)) (fun _ => nm_r (nI_1 r) (H _ _ _ (fw_3 (fun t => ?_) (fun t => ?_) (fun t => ?_))))
      · rw [fw_sel0, fw_sel0, fw_b_or, hon t]
        exact ⟨fun z => z.elim Or.inl (fun z => Or.inr ⟨e.symm, z⟩), fun z => z.elim Or.inl (fun z => Or.inr z.2)⟩
      · exact fw_or_f (fun z => absurd z.1 (by omega))
      · exact fw_or_f (fun z => absurd z.1 (by omega))
    · refine pk_eq (fw_lt c) 0 (fun z => absurd z (by omega)) (fun _ => ?_)
      refine pk_eq (fw_lt c) 1 (fun _ => ?_) (fun z => absurd e z)
      refine pk_eq (fw_lt c) 2 (fun z => absurd z (by omega)) (fun _ => nm_r (nI_1 r) (H _ _ _ (fw_3 (fun t => ?_) (fun t => ?_) (fun t => ?_))))
      · exact fw_or_f (fun z => absurd z.1 (by omega))
      · rw [fw_sel1, fw_sel1, fw_b_or, hon t]
        exact ⟨fun z => z.elim Or.inl (fun z => Or.inr ⟨e.symm, z⟩), fun z => z.elim Or.inl (fun z => Or.inr z.2)⟩
      · exact fw_or_f (fun z => absurd z.1 (by omega))
    · refine pk_eq (fw_lt c) 0 (fun z => absurd z (by omega)) (fun _ => ?_)
      refine pk_eq (fw_lt c) 1 (fun z => absurd z (by omega)) (fun _ => ?_)
      refine pk_eq (fw_lt c) 2 (fun _ => nm_e (nm_r (nI_1 r) (H _ _ _ (fw_3 (fun t => ?_) (fun t => ?_) (fun t => ?_))))) (fun z => absurd e z)
      · exact fw_or_f (fun z => absurd z.1 (by omega))
      · exact fw_or_f (fun z => absurd z.1 (by omega))
      · rw [fw_sel2, fw_sel2, fw_b_or, hon t]
        exact ⟨fun z => z.elim Or.inl (fun z => Or.inr ⟨e.symm, z⟩), fun z => z.elim Or.inl (fun z => Or.inr z.2)⟩
  refine nm_r m1 (nm_r m2 ?_)
  have h1' : fw_lf c = 0 ∨ fw_lf c = 1 ∨ fw_lf c = 2 := by omega
  rcases h1' with e | e | e
  · refine pk_eq (fw_lf c) 0 (fun _ => ?_) (fun z => absurd e z)
    rw [e] at G
    exact G
  · refine pk_eq (fw_lf c) 0 (fun z => absurd z (by omega)) (fun _ => pk_eq (fw_lf c) 1 (fun _ => ?_) (fun z => absurd e z))
    rw [e] at G
    exact G
  · refine pk_eq (fw_lf c) 0 (fun z => absurd z (by omega)) (fun _ => pk_eq (fw_lf c) 1 (fun z => absurd z (by omega)) (fun _ => ?_))
    rw [e] at G
    exact G
end
/-- the place t of a set is reached: by a token x, a walk -/
def fw_Sn (B : List Nat) (T : Nat → Prop) (u v w : Int64) : Prop :=
  ∀ m, m < 3 → ∀ t, t < 64 → fw_b (fw_sel m u v w) t → ∃ x, T x ∧ ∃ j p q, fw_W B j (x % 4) m p q ∧ t / 8 = x / 32 + p ∧ t % 8 = x / 4 % 8 + q
def fw_Cm (B : List Nat) (T : Nat → Prop) (s i : Nat) (u v w : Int64) : Prop :=
  (∀ x, T x → ∀ j m p q, j ≤ s → m < 3 → fw_W B j (x % 4) m p q → x / 32 + p < 8 → x / 4 % 8 + q < 8 → fw_b (fw_sel m u v w) (8 * (x / 32 + p) + (x / 4 % 8 + q))) ∧
  (∀ x, T x → ∀ k p q, k < i → k < B.length → fw_W B s (x % 4) (fw_lf (B.getD k 0)) p q → x / 32 + (p + fw_lp (B.getD k 0)) < 8 → x / 4 % 8 + (q + fw_lq (B.getD k 0)) < 8 → fw_b (fw_sel (fw_lt (B.getD k 0)) u v w) (8 * (x / 32 + (p + fw_lp (B.getD k 0))) + (x / 4 % 8 + (q + fw_lq (B.getD k 0)))))
theorem fw_Sn_s {B : List Nat} {T : Nat → Prop} {i : Nat} {u v w u' v' w' : Int64} (hB : fw_LB B) (hi : i < B.length) (h : fw_Sn B T u v w) (hr : fw_Rd (B.getD i 0) u v w u' v' w') : fw_Sn B T u' v' w' := by
  intro m hm t ht hb
  rcases (hr m hm t).mp hb with z | ⟨z1, t', z2, z3, z4, z5, z6⟩
  · exact h m hm t ht z
  · obtain ⟨x, x1, j, p, q, x2, x3, x4⟩ := h _ (hB i hi).2.1 t' z2 z3
    exact ⟨x, x1, j + 1, _, _, ⟨i, p, q, hi, z1.symm, x2, rfl, rfl⟩, by omega, by omega⟩
theorem fw_Sn_0 {B : List Nat} {T : Nat → Prop} {u v w u' v' w' : Int64} (h : fw_Sn B T u v w) (hr : fw_Rd 0 u v w u' v' w') : fw_Sn B T u' v' w' := by
  intro m hm t ht hb
  rcases (hr m hm t).mp hb with z | ⟨z1, t', z2, z3, z4, z5, z6⟩
  · exact h m hm t ht z
  · have e0 : fw_lp 0 = 0 := rfl
    have e1 : fw_lq 0 = 0 := rfl
    have e2 : fw_lt 0 = 0 := rfl
    have e3 : fw_lf 0 = 0 := rfl
    rw [e3] at z3
    rw [e0, e1] at z6
    rw [e2] at z1
    have e : t = t' := by omega
    rw [z1]
    rw [e]
    exact h 0 (by omega) t' z2 z3
theorem fw_Cm_m {B : List Nat} {T : Nat → Prop} {s i : Nat} {c : Nat} {u v w u' v' w' : Int64} (hB : fw_LB B) (h : fw_Cm B T s i u v w) (hr : fw_Rd c u v w u' v' w') : fw_Cm B T s i u' v' w' :=
  ⟨fun x hx j m p q h1 h2 h3 h4 h5 => (hr m h2 _).mpr (Or.inl (h.1 x hx j m p q h1 h2 h3 h4 h5)), fun x hx k p q h1 h2 h3 h4 h5 => (hr _ (hB k h2).2.2 _).mpr (Or.inl (h.2 x hx k p q h1 h2 h3 h4 h5))⟩
theorem fw_Cm_s {B : List Nat} {T : Nat → Prop} {s i : Nat} {u v w u' v' w' : Int64} (hB : fw_LB B) (h : fw_Cm B T s i u v w) (hi : i < B.length) (hr : fw_Rd (B.getD i 0) u v w u' v' w') : fw_Cm B T s (i + 1) u' v' w' := by
  have hm := fw_Cm_m hB h hr
  refine ⟨hm.1, fun x hx k p q h1 h2 h3 h4 h5 => ?_⟩
  by_cases c : k = i
  · subst c
    refine (hr _ (hB k h2).2.2 _).mpr (Or.inr ⟨rfl, 8 * (x / 32 + p) + (x / 4 % 8 + q), by omega, h.1 x hx s _ p q (Nat.le_refl _) (hB k h2).2.1 h3 (by omega) (by omega), by omega, by omega, by omega⟩)
  · exact hm.2 x hx k p q (by omega) h2 h3 h4 h5
theorem fw_Cm_x {B : List Nat} {T : Nat → Prop} {s i : Nat} {u v w : Int64} (h : fw_Cm B T s i u v w) (hi : B.length ≤ i) (i' : Nat) : fw_Cm B T s i' u v w :=
  ⟨h.1, fun x hx k p q _ h2 h3 h4 h5 => h.2 x hx k p q (by omega) h2 h3 h4 h5⟩
theorem fw_Cm_w {B : List Nat} {T : Nat → Prop} {s i : Nat} {u v w : Int64} (h : fw_Cm B T s i u v w) (hi : B.length ≤ i) : fw_Cm B T (s + 1) 0 u v w := by
  refine ⟨fun x hx j m p q h1 h2 h3 h4 h5 => ?_, fun x hx k p q h1 => absurd h1 (Nat.not_lt_zero _)⟩
  by_cases c : j ≤ s
  · exact h.1 x hx j m p q c h2 h3 h4 h5
  · have e : j = s + 1 := by omega
    subst e
    obtain ⟨k, p', q', w1, w2, w3, w4, w5⟩ := h3
    subst w2
    subst w4
    subst w5
    exact h.2 x hx k p' q' (by omega) w1 w3 h4 h5
/-- what the law's times answers -/
def fw_A (B : List Nat) (T : Nat → Prop) (m : Nat) (r : Int64) : Prop :=
  (∀ t, t < 64 → fw_b r t → ∃ x, T x ∧ ∃ j p q, fw_W B j (x % 4) m p q ∧ t / 8 = x / 32 + p ∧ t % 8 = x / 4 % 8 + q) ∧
  (∀ x, T x → ∀ j p q, j ≤ 12 → fw_W B j (x % 4) m p q → x / 32 + p < 8 → x / 4 % 8 + q < 8 → fw_b r (8 * (x / 32 + p) + (x / 4 % 8 + q)))
theorem fw_spread {post : Int64 → Prop} {B : List Nat} {T : Nat → Prop} {m : Nat} {u v w : Int64} (hB : fw_LB B) (hl : B.length ≤ 5) (hm : m < 3) (h1 : fw_Sn B T u v w) (h2 : fw_Cm B T 0 0 u v w) (H : ∀ r, fw_A B T m r → post r) :
    wpL_spread post () (lN (fw_pk B)) (nI B.length) (nI m) u v w := by
  have hy : fw_By B := fun j hj => (hB j hj).1
  refine pk_loop (fun n r (σ : Int64 × Int64 × Int64) => wL_spread_15 post (lN (fw_pk B)) (nI B.length) (nI m) n σ.1 σ.2.1 σ.2.2 (nI r)) (fun r σ => fw_Sn B T σ.1 σ.2.1 σ.2.2 ∧ fw_Cm B T (r / 5) (r % 5) σ.1 σ.2.1 σ.2.2) 60 0 (u, v, w) (Nat.zero_le _) ⟨h1, h2⟩ ?_ ?_
  · rintro n ⟨u, v, w⟩ ⟨s1, s2⟩
    have A : fw_A B T m (fw_sel m u v w) := ⟨s1 m hm, fun x hx j p q hj => s2.1 x hx j m p q hj hm⟩
    refine pk_le 60 60 (fun _ => ?_) (fun z => absurd z (by omega))
    have hm' : m = 0 ∨ m = 1 ∨ m = 2 := by omega
    rcases hm' with e | e | e
    · subst e
      exact pk_eq 0 0 (fun _ => H _ A) (fun z => absurd rfl z)
    · subst e
      exact pk_eq 1 0 (fun z => absurd z (by omega)) (fun _ => pk_eq 1 1 (fun _ => H _ A) (fun z => absurd rfl z))
    · subst e
      exact pk_eq 2 0 (fun z => absurd z (by omega)) (fun _ => pk_eq 2 1 (fun z => absurd z (by omega)) (fun _ => H _ A))
  · rintro n r ⟨u, v, w⟩ hr ⟨s1, s2⟩ hw
    have d : nI r - nI r / 5 * 5 = nI (r % 5) := pk_rem (a := r) (d := 5) (by omega) (by omega) (by omega)
    have K : ∀ u' v' w', fw_Sn B T u' v' w' → fw_Cm B T (r / 5) (r % 5 + 1) u' v' w' → wL_spread_15 post (lN (fw_pk B)) (nI B.length) (nI m) n u' v' w' (nI (r + 1)) := by
      intro u' v' w' k1 k2
      refine hw (u', v', w') ⟨k1, ?_⟩
      by_cases c : r % 5 = 4
      · rw [show (r + 1) / 5 = r / 5 + 1 by omega, show (r + 1) % 5 = 0 by omega]
        exact fw_Cm_w k2 (by omega)
      · rw [show (r + 1) / 5 = r / 5 by omega, show (r + 1) % 5 = r % 5 + 1 by omega]
        exact k2
    refine pk_le 60 r (fun z => absurd z (by omega)) (fun _ => ⟨by decide, ?_⟩)
    dsimp only
    rw [d]
    refine pk_le B.length (r % 5) (fun z => ?_) (fun z => ⟨by decide, ?_⟩)
    · exact fw_s48 (c := 0) (by decide) (by decide) (by decide) (fun u' v' w' hrd => K u' v' w' (fw_Sn_0 s1 hrd) (fw_Cm_x (fw_Cm_m hB s2 hrd) z _))
    · rw [fw_byte hy (by omega) (by omega)]
      have t := hB _ z
      exact fw_s48 t.1 t.2.1 t.2.2 (fun u' v' w' hrd => K u' v' w' (fw_Sn_s hB z s1 hrd) (fw_Cm_s hB s2 z hrd))
/-! ===== times ===== -/
/-- the tokens below i, but for wo, as sets by place -/
def fw_Ti (tl : List Nat) (wo i : Nat) (u v w : Int64) : Prop :=
  ∀ m, m < 3 → ∀ t, fw_b (fw_sel m u v w) t ↔ ∃ j, j < i ∧ tl.getD j 0 ≠ wo ∧ tl.getD j 0 % 4 = m ∧ tl.getD j 0 / 4 = t
theorem fw_Ti_n {tl : List Nat} {wo i : Nat} {u v w : Int64} (h : fw_Ti tl wo i u v w) (hn : tl.getD i 0 = wo) : fw_Ti tl wo (i + 1) u v w := by
  intro m hm t
  rw [h m hm t]
  constructor
  · rintro ⟨j, h1, h2⟩
    exact ⟨j, by omega, h2⟩
  · rintro ⟨j, h1, h2, h3⟩
    refine ⟨j, ?_, h2, h3⟩
    by_cases c : j = i
    · rw [c] at h2
      exact absurd hn h2
    · omega
theorem fw_Ti_s {tl : List Nat} {wo i : Nat} {u v w u' v' w' : Int64} (h : fw_Ti tl wo i u v w) (hn : tl.getD i 0 ≠ wo) (hs : ∀ m, m < 3 → ∀ t, fw_b (fw_sel m u' v' w') t ↔ fw_b (fw_sel m u v w) t ∨ (tl.getD i 0 % 4 = m ∧ tl.getD i 0 / 4 = t)) : fw_Ti tl wo (i + 1) u' v' w' := by
  intro m hm t
  rw [hs m hm t, h m hm t]
  constructor
  · rintro (⟨j, h1, h2⟩ | ⟨h1, h2⟩)
    · exact ⟨j, by omega, h2⟩
    · exact ⟨i, by omega, hn, h1, h2⟩
  · rintro ⟨j, h1, h2, h3, h4⟩
    by_cases c : j = i
    · rw [c] at h3 h4
      exact Or.inr ⟨h3, h4⟩
    · exact Or.inl ⟨j, by omega, h2, h3, h4⟩
theorem fw_times {post : Int64 → Prop} {B tl : List Nat} {m wo : Nat} (hB : fw_LB B) (hl : B.length ≤ 5) (hm : m < 3) (hy : fw_By tl) (hp : ∀ j, j < tl.length → tl.getD j 0 % 4 < 3) (hk : tl.length ≤ 6) (ho : wo < 1000)
    (H : ∀ r, fw_A B (fun x => x ∈ tl ∧ x ≠ wo) m r → post r) : wpL_times post () (lN (fw_pk B)) (nI B.length) (lN (fw_pk tl)) (nI tl.length) (nI m) (nI wo) := by
  refine pk_loop (fun n i (σ : Int64 × Int64 × Int64) => wL_times_12 post (lN (fw_pk B)) (nI B.length) (lN (fw_pk tl)) (nI tl.length) (nI m) (nI wo) n σ.1 σ.2.1 σ.2.2 (nI i)) (fun i σ => fw_Ti tl wo i σ.1 σ.2.1 σ.2.2) tl.length 0 ((0 : Int64), (0 : Int64), (0 : Int64)) (Nat.zero_le _) ?_ ?_ ?_
  · refine fw_3 (fun t => ?_) (fun t => ?_) (fun t => ?_)
    · exact ⟨fun z => absurd z (fw_b_0 t), fun ⟨j, z, _⟩ => absurd z (Nat.not_lt_zero _)⟩
    · exact ⟨fun z => absurd z (fw_b_0 t), fun ⟨j, z, _⟩ => absurd z (Nat.not_lt_zero _)⟩
    · exact ⟨fun z => absurd z (fw_b_0 t), fun ⟨j, z, _⟩ => absurd z (Nat.not_lt_zero _)⟩
  · rintro n ⟨u, v, w⟩ h
    refine pk_le tl.length tl.length (fun _ => ?_) (fun z => absurd z (by omega))
    refine fw_spread (T := fun x => x ∈ tl ∧ x ≠ wo) hB hl hm (fun m hm t ht hb => ?_) ⟨fun x hx j m p q h1 h2 h3 h4 h5 => ?_, fun x hx k p q h1 => absurd h1 (Nat.not_lt_zero _)⟩ H
    · obtain ⟨j, h1, h2, h3, h4⟩ := (h m hm t).mp hb
      refine ⟨tl.getD j 0, ⟨fw_gm h1, h2⟩, 0, 0, 0, ⟨h3, rfl, rfl⟩, by omega, by omega⟩
    · have e : j = 0 := by omega
      subst e
      obtain ⟨w1, w2, w3⟩ := h3
      subst w2
      subst w3
      obtain ⟨i, i1, i2⟩ := fw_mg 0 hx.1
      have := fw_By_m hy hx.1
      exact (h m h2 _).mpr ⟨i, i1, by rw [i2]; exact hx.2, by rw [i2]; exact w1, by rw [i2]; omega⟩
  · rintro n i ⟨u, v, w⟩ hi h hw
    have hx := hy i hi
    have hpl := hp i hi
    obtain ⟨τ, eτ⟩ : ∃ τ, tl.getD i 0 = τ := ⟨_, rfl⟩
    have e2 : nI τ >>> ((2 : Int32) &&& 31) = nI (τ / 4) := pk_shrN (n := τ) (by omega) ((2 : Int32) &&& 31) 2 (by decide)
    have e3 : nI τ &&& 3 = nI (τ % 4) := pk_andN (n := τ) (by omega) (m := 3) 2 (by decide)
    refine pk_le tl.length i (fun z => absurd z (by omega)) (fun _ => ?_)
    rw [fw_byte hy hk (by omega), eτ]
    refine nm_e ?_
    rw [e2]
    refine nm_e ?_
    rw [eτ] at hx hpl
    have hon : ∀ t, fw_b ((1 : Int64) <<< ((nI (τ / 4)).toInt64 &&& 63)) t ↔ t = τ / 4 := fun t => fw_b_1 (by omega) t
    generalize (1 : Int64) <<< ((nI (τ / 4)).toInt64 &&& 63) = on at hon ⊢
    refine pk_eq τ wo (fun z => ?_) (fun z => ?_)
    · exact br_t rfl (br_t rfl (br_t rfl (nm_r (nI_1 i) (hw (u, v, w) (fw_Ti_n h (eτ.trans z))))))
    · have hz : tl.getD i 0 ≠ wo := by rw [eτ]; exact z
      have F : ∀ {k : Nat} {x : Int64} {t : Nat}, τ % 4 = k → (fw_b (x ||| on) t ↔ fw_b x t ∨ (tl.getD i 0 % 4 = k ∧ tl.getD i 0 / 4 = t)) := by
        intro k x t hk
        rw [fw_b_or, hon t, eτ]
        exact ⟨fun z => z.elim Or.inl (fun z => Or.inr ⟨hk, z.symm⟩), fun z => z.elim Or.inl (fun z => Or.inr z.2.symm)⟩
      have F' : ∀ {k : Nat} {x : Int64} {t : Nat}, τ % 4 ≠ k → (fw_b x t ↔ fw_b x t ∨ (tl.getD i 0 % 4 = k ∧ tl.getD i 0 / 4 = t)) := by
        intro k x t hk
        rw [eτ]
        exact fw_or_f (fun z => hk z.1)
      have n1 : ¬ (1 : Int32) = 0 := by decide
      have hk3 : τ % 4 = 0 ∨ τ % 4 = 1 ∨ τ % 4 = 2 := by omega
      refine br_f n1 ?_
      unfold wL_times_77 wL_times_75 wL_times_77 wL_times_102 wL_times_100 wL_times_102
      rw [e3]
      rcases hk3 with e | e | e
      · have Q : fw_Ti tl wo (i + 1) (u ||| on) v w := fw_Ti_s h hz (fw_3 (fun t => F (x := u) e) (fun t => F' (x := v) (by omega)) (fun t => F' (x := w) (by omega)))
        refine pk_eq (τ % 4) 0 (fun _ => br_f n1 (pk_eq (τ % 4) 1 (fun z => absurd z (by omega)) (fun _ => br_f n1 (pk_eq (τ % 4) 2 (fun z => absurd z (by omega)) (fun _ => nm_r (nI_1 i) (hw (u ||| on, v, w) Q)))))) (fun z => absurd e z)
      · have Q : fw_Ti tl wo (i + 1) u (v ||| on) w := fw_Ti_s h hz (fw_3 (fun t => F' (x := u) (by omega)) (fun t => F (x := v) e) (fun t => F' (x := w) (by omega)))
        refine pk_eq (τ % 4) 0 (fun z => absurd z (by omega)) (fun _ => br_f n1 (pk_eq (τ % 4) 1 (fun _ => br_f n1 (pk_eq (τ % 4) 2 (fun z => absurd z (by omega)) (fun _ => nm_r (nI_1 i) (hw (u, v ||| on, w) Q)))) (fun z => absurd e z)))
      · have Q : fw_Ti tl wo (i + 1) u v (w ||| on) := fw_Ti_s h hz (fw_3 (fun t => F' (x := u) (by omega)) (fun t => F' (x := v) (by omega)) (fun t => F (x := w) e))
        refine pk_eq (τ % 4) 0 (fun z => absurd z (by omega)) (fun _ => br_f n1 (pk_eq (τ % 4) 1 (fun z => absurd z (by omega)) (fun _ => br_f n1 (pk_eq (τ % 4) 2 (fun _ => nm_e (nm_r (nI_1 i) (hw (u, v, w ||| on) Q))) (fun z => absurd e z)))))
end
section
/-! ===== the marks: how many, when positive ===== -/
theorem fw_hc_le (R : List (Nat × Nat)) (a b m i : Nat) : ∀ n, fw_hc R a b m i n ≤ n := by
  intro n
  induction n with
  | zero => exact Nat.le_refl _
  | succ n ih =>
    by_cases c : fw_q R a b m i n
    · rw [fw_hc_s c]
      omega
    · rw [fw_hc_n c]
      omega
theorem fw_hc_pos (R : List (Nat × Nat)) (a b m i : Nat) : ∀ n, 0 < fw_hc R a b m i n ↔ ∃ j, j < n ∧ fw_q R a b m i j := by
  intro n
  induction n with
  | zero => exact ⟨fun h => absurd h (Nat.lt_irrefl _), fun ⟨j, h, _⟩ => absurd h (Nat.not_lt_zero _)⟩
  | succ n ih =>
    by_cases c : fw_q R a b m i n
    · rw [fw_hc_s c]
      exact ⟨fun _ => ⟨n, by omega, c⟩, fun _ => by omega⟩
    · rw [fw_hc_n c, ih]
      constructor
      · rintro ⟨j, h1, h2⟩
        exact ⟨j, by omega, h2⟩
      · rintro ⟨j, h1, h2⟩
        refine ⟨j, ?_, h2⟩
        by_cases e : j = n
        · rw [e] at h2
          exact absurd h2 c
        · omega
theorem fw_hm_le {R : Nat → List (Nat × Nat)} {l : Nat} (a b i : Nat) (hl : l < 7) (hR : ∀ x, x < 49 → (R x).length ≤ 19) : ∀ n, n ≤ 7 → fw_hm R l a b i n ≤ 19 * n := by
  intro n
  induction n with
  | zero =>
    intro _
    exact Nat.le_refl _
  | succ n ih =>
    intro hn
    have t := ih (by omega)
    have u := fw_hc_le (R (7 * l + n)) a b n i (R (7 * l + n)).length
    have v := hR (7 * l + n) (by omega)
    show fw_hm R l a b i n + fw_hc (R (7 * l + n)) a b n i (R (7 * l + n)).length ≤ 19 * (n + 1)
    omega
theorem fw_hm_pos (R : Nat → List (Nat × Nat)) (l a b i : Nat) : ∀ n, 0 < fw_hm R l a b i n ↔ ∃ m, m < n ∧ ∃ j, j < (R (7 * l + m)).length ∧ fw_q (R (7 * l + m)) a b m i j := by
  intro n
  induction n with
  | zero => exact ⟨fun h => absurd h (Nat.lt_irrefl _), fun ⟨j, h, _⟩ => absurd h (Nat.not_lt_zero _)⟩
  | succ n ih =>
    show 0 < fw_hm R l a b i n + fw_hc (R (7 * l + n)) a b n i (R (7 * l + n)).length ↔ _
    have t := fw_hc_pos (R (7 * l + n)) a b n i (R (7 * l + n)).length
    constructor
    · intro h
      by_cases c : 0 < fw_hm R l a b i n
      · obtain ⟨m, h1, h2⟩ := ih.mp c
        exact ⟨m, by omega, h2⟩
      · exact ⟨n, by omega, t.mp (by omega)⟩
    · rintro ⟨m, h1, h2⟩
      by_cases c : m = n
      · rw [c] at h2
        have := t.mpr h2
        omega
      · have := ih.mpr ⟨m, by omega, h2⟩
        omega
theorem fw_sum_c (R : Nat → List (Nat × Nat)) (t : Nat) (tk : List Nat) (i : Nat) : fw_sum R (t :: tk) i = fw_hits R t i + fw_sum R tk i := rfl
theorem fw_sum_pos (R : Nat → List (Nat × Nat)) (i : Nat) : ∀ tk : List Nat, 0 < fw_sum R tk i ↔ ∃ t, t ∈ tk ∧ 0 < fw_hits R t i := by
  intro tk
  induction tk with
  | nil => exact ⟨fun h => absurd h (Nat.lt_irrefl _), fun ⟨t, h, _⟩ => absurd h List.not_mem_nil⟩
  | cons t tk ih =>
    rw [fw_sum_c]
    constructor
    · intro h
      by_cases c : 0 < fw_hits R t i
      · exact ⟨t, List.mem_cons_self .., c⟩
      · obtain ⟨x, x1, x2⟩ := ih.mp (by omega)
        exact ⟨x, List.mem_cons_of_mem _ x1, x2⟩
    · rintro ⟨x, x1, x2⟩
      rcases List.mem_cons.mp x1 with e | e
      · rw [e] at x2
        omega
      · have := ih.mpr ⟨x, e, x2⟩
        omega
theorem fw_sum_le {R : Nat → List (Nat × Nat)} (hR : ∀ x, x < 49 → (R x).length ≤ 19) (i : Nat) : ∀ tk : List Nat, (∀ t, t ∈ tk → t % 4 < 3) → fw_sum R tk i ≤ 133 * tk.length := by
  intro tk
  induction tk with
  | nil =>
    intro _
    exact Nat.le_refl _
  | cons t tk ih =>
    intro h
    have t1 := ih (fun x hx => h x (List.mem_cons_of_mem _ hx))
    have t2 := h t (List.mem_cons_self ..)
    have t3 : fw_hits R t i ≤ 19 * 7 := fw_hm_le _ _ _ (by omega) hR 7 (Nat.le_refl _)
    rw [fw_sum_c, List.length_cons]
    omega
/-- a token of T and a sum of its row make the time (x, y) at place m -/
def fw_H (R : Nat → List (Nat × Nat)) (T : Nat → Prop) (m x y : Nat) : Prop := ∃ t, T t ∧ ∃ e, e ∈ R (7 * (t % 4) + m) ∧ t / 32 + e.1 = x ∧ t / 4 % 8 + e.2 = y
theorem fw_hits_pos (R : Nat → List (Nat × Nat)) {t m x y : Nat} (hm : m < 7) (hx : x ≤ 15) (hy : y ≤ 15) : 0 < fw_hits R t (256 * m + 16 * x + y) ↔ ∃ e, e ∈ R (7 * (t % 4) + m) ∧ t / 32 + e.1 = x ∧ t / 4 % 8 + e.2 = y := by
  unfold fw_hits
  rw [fw_hm_pos]
  constructor
  · rintro ⟨m', h1, j, h2, h3, h4, h5⟩
    have e : m' = m := by omega
    subst e
    exact ⟨_, fw_gm (d := (0, 0)) h2, by omega, by omega⟩
  · rintro ⟨e, h1, h2, h3⟩
    obtain ⟨j, j1, j2⟩ := fw_mg (0, 0) h1
    refine ⟨m, hm, j, j1, ?_⟩
    show t / 32 + ((R (7 * (t % 4) + m)).getD j (0, 0)).1 ≤ 15 ∧ _
    rw [j2]
    exact ⟨by omega, by omega, by omega⟩
/-- the state: lines B, tokens tk, rows R -/
def fw_St (B tk : List Nat) (R : Nat → List (Nat × Nat)) (fl ft : Int32) (a1 a2 a3 a4 a5 a6 a7 a8 a10 : Nat → Int32) : Prop :=
  fw_Ls B fl a1 a2 a3 a4 ∧ fw_T tk ft a5 a6 ∧ fw_Rows a7 a8 R ∧ fw_F B R ∧ fw_M R tk a10
theorem fw_T_m {tk : List Nat} {ft : Int32} {a5 a6 : Nat → Int32} (h : fw_T tk ft a5 a6) {t : Nat} (ht : t ∈ tk) : t < 256 ∧ t % 4 < 3 := by
  obtain ⟨j, j1, j2⟩ := fw_mg 0 ht
  have u := h.2.2 j j1
  rw [j2] at u
  exact ⟨u.1, u.2.1⟩
section
variable {fl ft fg : Int32} {a1 a2 a3 a4 a5 a6 a7 a8 a9 a10 : Nat → Int32} {B tk : List Nat} {R : Nat → List (Nat × Nat)} {post : Int32 → Prop}
theorem fw_mark (h : fw_St B tk R fl ft a1 a2 a3 a4 a5 a6 a7 a8 a10) {m x y : Nat} (hm : m < 7) (hx : x ≤ 15) (hy : y ≤ 15) : a10 (256 * m + 16 * x + y) ≤ 0 ↔ ¬ fw_H R (fun t => t ∈ tk) m x y := by
  obtain ⟨s1, s2, s3, s4, s5⟩ := h
  have e1 := s5 (256 * m + 16 * x + y) (by omega)
  have e2 := fw_sum_le (R := R) (fun x hx => (s3 x hx).1) (256 * m + 16 * x + y) tk (fun t ht => (fw_T_m s2 ht).2)
  have e3 := s2.2.1
  have e4 := fw_sum_pos R (256 * m + 16 * x + y) tk
  have e5 : fw_H R (fun t => t ∈ tk) m x y ↔ 0 < fw_sum R tk (256 * m + 16 * x + y) := by
    rw [e4]
    exact ⟨fun ⟨t, t1, t2⟩ => ⟨t, t1, (fw_hits_pos R hm hx hy).mpr t2⟩, fun ⟨t, t1, t2⟩ => ⟨t, t1, (fw_hits_pos R hm hx hy).mp t2⟩⟩
  rw [e1, e5]
  have e6 : nI (fw_sum R tk (256 * m + 16 * x + y)) ≤ 0 ↔ fw_sum R tk (256 * m + 16 * x + y) ≤ 0 := nI_leI (b := 0) (by omega) (by omega)
  rw [e6]
  omega
theorem fw_n10 : ¬ (1 : Int32) = 0 := by decide
theorem fw_isPlace {l : Nat} (hl : l ≤ 6) (H : post 1) : wpX_isPlace post () (nI l) :=
  pk_lt l 0 (fun z => absurd z (by omega)) (fun _ => pk_lt 6 l (fun z => absurd z (by omega)) (fun _ => H))
theorem fw_isTime {a b : Nat} (ha : a ≤ 15) (hb : b ≤ 15) (H : post 1) : wpX_isTime post () (nI a) (nI b) :=
  pk_lt a 0 (fun z => absurd z (by omega)) (fun _ => pk_lt 15 a (fun z => absurd z (by omega)) (fun _ => pk_lt b 0 (fun z => absurd z (by omega)) (fun _ => pk_lt 15 b (fun z => absurd z (by omega)) (fun _ => H))))
theorem fw_ix (m x y : Nat) : 256 * nI m + 16 * nI x + nI y = nI (256 * m + 16 * x + y) := by
  rw [show 256 * nI m = nI (256 * m) from pk_mul 256 m, show 16 * nI x = nI (16 * x) from pk_mul 16 x, nI_add, nI_add]
theorem fw_p29 {J : Int32 → Prop} (h : fw_St B tk R fl ft a1 a2 a3 a4 a5 a6 a7 a8 a10) {m s t x : Nat} (hm : m < 7) (ht : t ≤ 15) (hx : x ≤ 15)
    (H1 : ∀ y, y ≤ t → fw_H R (fun t => t ∈ tk) m x y → post 1) (HJ : (∀ y, y ≤ t → ¬ fw_H R (fun t => t ∈ tk) m x y) → J (nI (x + 1))) :
    ∃ n, wX_possible_29 post J (nI m) (nI s) (nI t) (nI x) fl ft fg a1 a2 a3 a4 a5 a6 a7 a8 a9 a10 n 0 := by
  refine pk_loop (σ := Unit) (fun n y _ => wX_possible_29 post J (nI m) (nI s) (nI t) (nI x) fl ft fg a1 a2 a3 a4 a5 a6 a7 a8 a9 a10 n (nI y)) (fun y _ => ∀ y', y' < y → ¬ fw_H R (fun t => t ∈ tk) m x y') (t + 1) 0 () (Nat.zero_le _) (fun j hj => absurd hj (Nat.not_lt_zero _)) ?_ ?_
  · intro n _ hh
    exact pk_lt t (t + 1) (fun _ => nm_r (nI_1 x) (HJ (fun y hy => hh y (by omega)))) (fun z => absurd z (by omega))
  · intro n y _ hy hh hw
    refine pk_lt t y (fun z => absurd z (by omega)) (fun _ => ?_)
    rw [fw_ix, nI_clamp (show 256 * m + 16 * x + y < 2 ^ 31 by omega)]
    refine ⟨pk_in (256 * m + 16 * x + y) 1792 (by omega), ek_if (fw_mark h hm hx (by omega)) (fun hn => nm_r (nI_1 y) (hw () (fun y' hy' => ?_))) (fun hn => H1 y (by omega) (Classical.not_not.mp hn))⟩
    by_cases c : y' = y
    · rw [c]
      exact hn
    · exact hh y' (by omega)
theorem fw_possible (h : fw_St B tk R fl ft a1 a2 a3 a4 a5 a6 a7 a8 a10) {m s t : Nat} (hm : m ≤ 6) (hs : s ≤ 15) (ht : t ≤ 15)
    (H1 : (∃ x y, x ≤ s ∧ y ≤ t ∧ fw_H R (fun t => t ∈ tk) m x y) → post 1) (H0 : ¬ (∃ x y, x ≤ s ∧ y ≤ t ∧ fw_H R (fun t => t ∈ tk) m x y) → post 0) :
    wpX_possible post (fl, ft, fg, a1, a2, a3, a4, a5, a6, a7, a8, a9, a10) (nI m) (nI s) (nI t) := by
  unfold wpX_possible
  dsimp only
  refine fw_isPlace hm ?_
  refine br_f fw_n10 ?_
  refine fw_isTime hs ht ?_
  refine br_f fw_n10 ?_
  refine pk_loop (σ := Unit) (fun n x _ => wX_possible_20 post (nI m) (nI s) (nI t) fl ft fg a1 a2 a3 a4 a5 a6 a7 a8 a9 a10 n (nI x)) (fun x _ => ∀ x' y, x' < x → y ≤ t → ¬ fw_H R (fun t => t ∈ tk) m x' y) (s + 1) 0 () (Nat.zero_le _) (fun j _ hj => absurd hj (Nat.not_lt_zero _)) ?_ ?_
  · intro n _ hh
    exact pk_lt s (s + 1) (fun _ => H0 (fun ⟨x, y, x1, x2, x3⟩ => hh x y (by omega) x2 x3)) (fun z => absurd z (by omega))
  · intro n x _ hx hh hw
    refine pk_lt s x (fun z => absurd z (by omega)) (fun _ => ?_)
    refine fw_p29 h (by omega) ht (by omega) (fun y hy hH => H1 ⟨x, y, by omega, hy, hH⟩) (fun hn => hw () (fun x' y hx' hy => ?_))
    by_cases c : x' = x
    · rw [c]
      exact hn y hy
    · exact hh x' y (by omega) hy
/-! ===== reaches, ready ===== -/
def fw_Rc (R : Nat → List (Nat × Nat)) (l a b t : Nat) : Prop := ∃ e, e ∈ R (7 * (t % 4) + l) ∧ t / 32 + e.1 ≤ a ∧ t / 4 % 8 + e.2 ≤ b
theorem fw_slt {a c e : Nat} (ha : a < 1000) (hc : c < 1000) (he : e < 1000) : nI a - nI c < nI e ↔ ¬ c + e ≤ a := by
  rw [Int32.lt_iff_toInt_lt, pk_sub_toInt (by omega) (by omega), nI_toInt (by omega)]
  omega
theorem fw_reaches (h : fw_St B tk R fl ft a1 a2 a3 a4 a5 a6 a7 a8 a10) {k l a b : Nat} (hk : k < tk.length) (hl : l < 7) (ha : a ≤ 15) (hb : b ≤ 15)
    (H1 : fw_Rc R l a b (tk.getD k 0) → post 1) (H0 : ¬ fw_Rc R l a b (tk.getD k 0) → post 0) :
    wpX_reaches post (fl, ft, fg, a1, a2, a3, a4, a5, a6, a7, a8, a9, a10) (nI k) (nI l) (nI a) (nI b) := by
  obtain ⟨s1, s2, s3, s4, s5⟩ := id h
  have hk6 := s2.2.1
  obtain ⟨q1, q2, q3, q4⟩ := s2.2.2 k hk
  generalize tk.getD k 0 = t at *
  have E4 : nI (16 * (t / 32) + t / 4 % 8) >>> ((4 : Int32) &&& 31) = nI (t / 32) := by
    rw [pk_shrN (n := 16 * (t / 32) + t / 4 % 8) (by omega) ((4 : Int32) &&& 31) 4 (by decide)]
    rw [show (16 * (t / 32) + t / 4 % 8) / 2 ^ 4 = t / 32 from by omega]
  have E5 : nI (16 * (t / 32) + t / 4 % 8) &&& 15 = nI (t / 4 % 8) := by
    rw [pk_andN (n := 16 * (t / 32) + t / 4 % 8) (by omega) (m := 15) 4 (by decide)]
    rw [show (16 * (t / 32) + t / 4 % 8) % 2 ^ 4 = t / 4 % 8 from by omega]
  unfold wpX_reaches
  dsimp only
  rw [nI_clamp (show k < 2 ^ 31 by omega), q3, q4, E4, E5]
  have E1 : 7 * nI (t % 4) + nI l = nI (7 * (t % 4) + l) := by rw [show 7 * nI (t % 4) = nI (7 * (t % 4)) from pk_mul 7 _, nI_add]
  refine ⟨pk_in k 20 (by omega), nm_r E1 ⟨pk_in k 20 (by omega), nm_e ⟨pk_in k 20 (by omega), nm_e (nm_r (show 19 * nI (7 * (t % 4) + l) = nI (19 * (7 * (t % 4) + l)) from pk_mul 19 _) ?_)⟩⟩⟩
  have hrow : 7 * (t % 4) + l < 49 := by omega
  have hbd : ∀ e, e ∈ R (7 * (t % 4) + l) → e.1 ≤ 15 ∧ e.2 ≤ 15 := fun e he => fw_bF s4 (by omega) hl he
  obtain ⟨r1, r2, r3⟩ := s3 _ hrow
  unfold fw_Rc at H1 H0
  generalize 7 * (t % 4) + l = r at *
  refine pk_loop (σ := Unit) (fun n i _ => wX_reaches_46 post (nI r) (nI a - nI (t / 32)) (nI b - nI (t / 4 % 8)) fl ft fg a1 a2 a3 a4 a5 a6 a7 a8 a9 a10 n (nI (19 * r + i))) (fun i _ => ∀ j, j < i → ¬ (t / 32 + ((R r).getD j (0, 0)).1 ≤ a ∧ t / 4 % 8 + ((R r).getD j (0, 0)).2 ≤ b)) (R r).length 0 () (Nat.zero_le _) (fun j hj => absurd hj (Nat.not_lt_zero _)) ?_ ?_
  · intro n _ hh
    refine ⟨pk_in r 49 hrow, ?_⟩
    rw [nI_clamp (show r < 2 ^ 31 by omega), show 19 * nI r = nI (19 * r) from pk_mul 19 r, r2, nI_add]
    refine pk_le (19 * r + (R r).length) (19 * r + (R r).length) (fun _ => H0 (fun ⟨e, e1, e2⟩ => ?_)) (fun z => absurd z (by omega))
    obtain ⟨j, j1, j2⟩ := fw_mg (0, 0) e1
    have t := hh j j1
    rw [j2] at t
    exact t e2
  · intro n i _ hi hh hw
    have he := hbd _ (fw_gm (d := (0, 0)) hi)
    have hmem := fw_gm (d := (0, 0)) hi
    have N : ¬ (t / 32 + ((R r).getD i (0, 0)).1 ≤ a ∧ t / 4 % 8 + ((R r).getD i (0, 0)).2 ≤ b) → ∀ y : Int32, y = nI (19 * r + i) + 1 → wX_reaches_46 post (nI r) (nI a - nI (t / 32)) (nI b - nI (t / 4 % 8)) fl ft fg a1 a2 a3 a4 a5 a6 a7 a8 a9 a10 n y := fun hn => nm_r (nI_1 _) (hw () (fun j hj => by
      by_cases c : j = i
      · rw [c]
        exact hn
      · exact hh j (by omega)))
    refine ⟨pk_in r 49 hrow, ?_⟩
    rw [nI_clamp (show r < 2 ^ 31 by omega), nI_clamp (show 19 * r + i < 2 ^ 31 by omega), show 19 * nI r = nI (19 * r) from pk_mul 19 r, r2, nI_add, r3 i hi, fw_sh (by omega) (by omega), fw_an (by omega) (by omega)]
    refine pk_le (19 * r + (R r).length) (19 * r + i) (fun z => absurd z (by omega)) (fun _ => ⟨pk_in (19 * r + i) 931 (by omega), ?_⟩)
    refine ek_if (fw_slt (by omega) (by omega) (by omega)) (fun z => N (fun w => z w.1)) (fun z1 => ⟨pk_in (19 * r + i) 931 (by omega), ek_if (fw_slt (by omega) (by omega) (by omega)) (fun z => N (fun w => z w.2)) (fun z2 => H1 ⟨_, hmem, Decidable.not_not.mp z1, Decidable.not_not.mp z2⟩)⟩)
theorem fw_ready (h : fw_St B tk R fl ft a1 a2 a3 a4 a5 a6 a7 a8 a10) {l a b : Nat} (hl : l < 3) (ha : a < 8) (hb : b < 8)
    (H1 : l + 4 * (8 * a + b) ∈ tk → ¬ (∃ t, (t ∈ tk ∧ t ≠ l + 4 * (8 * a + b)) ∧ fw_Rc R l a b t) → post 1) (H0 : (l + 4 * (8 * a + b) ∈ tk → ∃ t, (t ∈ tk ∧ t ≠ l + 4 * (8 * a + b)) ∧ fw_Rc R l a b t) → post 0) :
    wpX_ready post (fl, ft, fg, a1, a2, a3, a4, a5, a6, a7, a8, a9, a10) (nI l) (nI a) (nI b) := by
  obtain ⟨s1, s2, s3, s4, s5⟩ := id h
  have hk6 := s2.2.1
  have hft := s2.1
  unfold wpX_ready
  dsimp only
  refine fw_isPlace (l := l) (by omega) ?_
  refine br_f fw_n10 ?_
  refine fw_isTime (a := a) (b := b) (by omega) (by omega) ?_
  refine br_f fw_n10 ?_
  have E : 16 * nI a + nI b = nI (16 * a + b) := by rw [show 16 * nI a = nI (16 * a) from pk_mul 16 a, nI_add]
  refine pk_loop (fun n k s => wX_ready_23 post (nI l) (nI a) (nI b) fl ft fg a1 a2 a3 a4 a5 a6 a7 a8 a9 a10 n s (nI k)) (fun k s => (∀ j, j < k → tk.getD j 0 ≠ l + 4 * (8 * a + b) → ¬ fw_Rc R l a b (tk.getD j 0)) ∧ ∃ c, c ≤ k ∧ s = nI c ∧ (0 < c ↔ ∃ j, j < k ∧ tk.getD j 0 = l + 4 * (8 * a + b))) tk.length 0 (0 : Int32) (Nat.zero_le _) ⟨fun j hj => absurd hj (Nat.not_lt_zero _), 0, Nat.le_refl _, rfl, fun z => absurd z (Nat.lt_irrefl _), fun ⟨j, hj, _⟩ => absurd hj (Nat.not_lt_zero _)⟩ ?_ ?_
  · rintro n s ⟨i1, c, i2, i3, i4⟩
    subst i3
    have NR : ¬ ∃ t, (t ∈ tk ∧ t ≠ l + 4 * (8 * a + b)) ∧ fw_Rc R l a b t := fun ⟨t, t1, t2⟩ => by
      obtain ⟨j, j1, j2⟩ := fw_mg 0 t1.1
      rw [← j2] at t2
      exact i1 j j1 (by rw [j2]; exact t1.2) t2
    refine pk_le tk.length tk.length (fun _ => pk_le c 0 (fun z => H0 (fun hm => ?_)) (fun z => ?_)) (fun z => absurd z (by omega)) hft
    · obtain ⟨j, j1, j2⟩ := fw_mg 0 hm
      have := i4.mpr ⟨j, j1, j2⟩
      omega
    · obtain ⟨j, j1, j2⟩ := i4.mp z
      exact H1 (by rw [← j2]; exact fw_gm j1) NR
  · rintro n k s hk ⟨i1, c, i2, i3, i4⟩ hw
    subst i3
    obtain ⟨q1, q2, q3, q4⟩ := s2.2.2 k hk
    have Y : tk.getD k 0 = l + 4 * (8 * a + b) → wX_ready_64 post (wX_ready_23 post (nI l) (nI a) (nI b) fl ft fg a1 a2 a3 a4 a5 a6 a7 a8 a9 a10 n) (nI l) (nI a) (nI b) (nI c) (nI k) 1 fl ft fg a1 a2 a3 a4 a5 a6 a7 a8 a9 a10 := by
      intro hy
      refine br_f (by decide) (nm_r (nI_1 c) (br_f (by decide) (nm_r (nI_1 k) (hw _ ⟨fun j hj hne => ?_, c + 1, by omega, rfl, fun _ => ⟨k, by omega, hy⟩, fun _ => by omega⟩))))
      by_cases e : j = k
      · rw [e] at hne
        exact absurd hy hne
      · exact i1 j (by omega) hne
    have N : tk.getD k 0 ≠ l + 4 * (8 * a + b) → wX_ready_64 post (wX_ready_23 post (nI l) (nI a) (nI b) fl ft fg a1 a2 a3 a4 a5 a6 a7 a8 a9 a10 n) (nI l) (nI a) (nI b) (nI c) (nI k) 0 fl ft fg a1 a2 a3 a4 a5 a6 a7 a8 a9 a10 := by
      intro hy
      refine br_t rfl (nm_r (show nI c + 0 = nI c from nI_add c 0) (br_t rfl ?_))
      refine fw_reaches h hk (by omega) (by omega) (by omega) (fun z => br_f (by decide) (H0 (fun _ => ⟨_, ⟨fw_gm hk, hy⟩, z⟩))) (fun z => br_t rfl (nm_r (nI_1 k) (hw _ ⟨fun j hj hne => ?_, c, by omega, rfl, i4.trans ⟨fun ⟨j, j1, j2⟩ => ⟨j, by omega, j2⟩, fun ⟨j, j1, j2⟩ => ⟨j, ?_, j2⟩⟩⟩)))
      · by_cases e : j = k
        · rw [e]
          exact z
        · exact i1 j (by omega) hne
      · by_cases e : j = k
        · rw [e] at j2
          exact absurd j2 hy
        · omega
    refine pk_le tk.length k (fun z => absurd z (by omega)) (fun _ => ⟨pk_in k 20 (by omega), ?_⟩) hft
    rw [nI_clamp (show k < 2 ^ 31 by omega), q3, q4, E]
    exact pk_eq (tk.getD k 0 % 4) l (fun z1 => ⟨pk_in k 20 (by omega), pk_eq (16 * (tk.getD k 0 / 32) + tk.getD k 0 / 4 % 8) (16 * a + b) (fun z2 => Y (by omega)) (fun z2 => N (fun z3 => z2 (by omega)))⟩) (fun z1 => N (fun z3 => z1 (by omega)))
/-! ===== firstMark, frontAt ===== -/
theorem fw_firstMark (h : fw_St B tk R fl ft a1 a2 a3 a4 a5 a6 a7 a8 a10) {m x : Nat} (hm : m < 7) (hx : x ≤ 15)
    (H1 : ∀ y, y < 16 → fw_H R (fun t => t ∈ tk) m x y → (∀ y', y' < y → ¬ fw_H R (fun t => t ∈ tk) m x y') → post (nI y)) (H0 : (∀ y, y < 16 → ¬ fw_H R (fun t => t ∈ tk) m x y) → post (nI 16)) :
    wpX_firstMark post (fl, ft, fg, a1, a2, a3, a4, a5, a6, a7, a8, a9, a10) (nI m) (nI x) (nI 16) := by
  refine pk_loop (σ := Unit) (fun n y _ => wX_firstMark_3 post (nI m) (nI x) (nI 16) fl ft fg a1 a2 a3 a4 a5 a6 a7 a8 a9 a10 n (nI y)) (fun y _ => ∀ y', y' < y → ¬ fw_H R (fun t => t ∈ tk) m x y') 16 0 () (Nat.zero_le _) (fun j hj => absurd hj (Nat.not_lt_zero _)) ?_ ?_
  · intro n _ hh
    exact pk_le 16 16 (fun _ => H0 hh) (fun z => absurd z (by omega))
  · intro n y _ hy hh hw
    refine pk_le 16 y (fun z => absurd z (by omega)) (fun _ => ?_)
    rw [fw_ix, nI_clamp (show 256 * m + 16 * x + y < 2 ^ 31 by omega)]
    refine ⟨pk_in (256 * m + 16 * x + y) 1792 (by omega), ek_if (fw_mark h hm hx (by omega)) (fun hn => nm_r (nI_1 y) (hw () (fun y' hy' => ?_))) (fun hn => H1 y hy (Classical.not_not.mp hn) hh)⟩
    by_cases c : y' = y
    · rw [c]
      exact hn
    · exact hh y' (by omega)
theorem fw_frontAt (h : fw_St B tk R fl ft a1 a2 a3 a4 a5 a6 a7 a8 a10) {m : Nat} (hm : m < 7)
    (H1 : ∀ x y, x < 16 → y < 16 → fw_H R (fun t => t ∈ tk) m x y → (∀ x' y', y' < 16 → 16 * x' + y' < 16 * x + y → ¬ fw_H R (fun t => t ∈ tk) m x' y') → post (nI (16 * x + y))) (H0 : (∀ x y, x < 16 → y < 16 → ¬ fw_H R (fun t => t ∈ tk) m x y) → post (-1)) :
    wpX_frontAt post (fl, ft, fg, a1, a2, a3, a4, a5, a6, a7, a8, a9, a10) (nI m) 0 := by
  unfold wpX_frontAt
  dsimp only
  refine fw_isPlace (l := m) (by omega) ?_
  refine br_f fw_n10 ?_
  refine br_t (show (0 : Int32) ≤ 0 by decide) ?_
  refine pk_loop (σ := Unit) (fun n x _ => wX_frontAt_22 post (nI m) fl ft fg a1 a2 a3 a4 a5 a6 a7 a8 a9 a10 n 0 (nI 16) (nI x)) (fun x _ => ∀ x' y, x' < x → y < 16 → ¬ fw_H R (fun t => t ∈ tk) m x' y) 16 0 () (Nat.zero_le _) (fun j _ hj => absurd hj (Nat.not_lt_zero _)) ?_ ?_
  · intro n _ hh
    exact pk_le 16 16 (fun _ => H0 (fun x y hx hy => hh x y hx hy)) (fun z => absurd z (by omega))
  · intro n x _ hx hh hw
    refine pk_le 16 x (fun z => absurd z (by omega)) (fun _ => ?_)
    refine fw_firstMark h hm (by omega) (fun y hy hH hn => ?_) (fun hn => ?_)
    · refine pk_le 16 y (fun z => absurd z (by omega)) (fun _ => br_t rfl ?_)
      rw [show 16 * nI x = nI (16 * x) from pk_mul 16 x, nI_add]
      refine H1 x y hx hy hH (fun x' y' hy' hlt => ?_)
      by_cases c : x' = x
      · rw [c]
        exact hn y' (by omega)
      · exact hh x' y' (by omega) hy'
    · refine pk_le 16 16 (fun _ => nm_r (nI_1 x) (hw () (fun x' y hx' hy => ?_))) (fun z => absurd z (by omega))
      by_cases c : x' = x
      · rw [c]
        exact hn y hy
      · exact hh x' y (by omega) hy
theorem fw_tokenAt (h : fw_St B tk R fl ft a1 a2 a3 a4 a5 a6 a7 a8 a10) {l a b : Nat} (hl : l < 3) (ha : a < 8) (hb : b < 8)
    (H1 : ∀ k, k < tk.length → tk.getD k 0 = l + 4 * (8 * a + b) → post (nI k)) (H0 : l + 4 * (8 * a + b) ∉ tk → post (-1)) :
    wpX_tokenAt post (fl, ft, fg, a1, a2, a3, a4, a5, a6, a7, a8, a9, a10) (nI l) (nI (16 * a + b)) := by
  obtain ⟨s1, s2, s3, s4, s5⟩ := id h
  have hk6 := s2.2.1
  have hft := s2.1
  refine pk_loop (σ := Unit) (fun n k _ => wX_tokenAt_2 post (nI l) (nI (16 * a + b)) fl ft fg a1 a2 a3 a4 a5 a6 a7 a8 a9 a10 n (nI k)) (fun k _ => ∀ j, j < k → tk.getD j 0 ≠ l + 4 * (8 * a + b)) tk.length 0 () (Nat.zero_le _) (fun j hj => absurd hj (Nat.not_lt_zero _)) ?_ ?_
  · intro n _ hh
    refine pk_le tk.length tk.length (fun _ => H0 (fun hm => ?_)) (fun z => absurd z (by omega)) hft
    obtain ⟨j, j1, j2⟩ := fw_mg 0 hm
    exact hh j j1 j2
  · intro n k _ hk hh hw
    obtain ⟨q1, q2, q3, q4⟩ := s2.2.2 k hk
    have N : tk.getD k 0 ≠ l + 4 * (8 * a + b) → ∀ y : Int32, y = nI k + 1 → wX_tokenAt_2 post (nI l) (nI (16 * a + b)) fl ft fg a1 a2 a3 a4 a5 a6 a7 a8 a9 a10 n y := fun hn => nm_r (nI_1 k) (hw () (fun j hj => by
      by_cases c : j = k
      · rw [c]
        exact hn
      · exact hh j (by omega)))
    refine pk_le tk.length k (fun z => absurd z (by omega)) (fun _ => ⟨pk_in k 20 (by omega), ?_⟩) hft
    rw [nI_clamp (show k < 2 ^ 31 by omega), q3, q4]
    exact pk_eq (tk.getD k 0 % 4) l (fun z1 => ⟨pk_in k 20 (by omega), pk_eq (16 * (tk.getD k 0 / 32) + tk.getD k 0 / 4 % 8) (16 * a + b) (fun z2 => H1 k hk (by omega)) (fun z2 => N (fun z3 => z2 (by omega)))⟩) (fun z1 => N (fun z3 => z1 (by omega)))
end
end
section
/-! ===== link, unlink, put, take, the constructor ===== -/
theorem fw_ga {α : Type} {R : List α} {d x : α} {j : Nat} (h : j < (R ++ [x]).length) : (j < R.length ∧ (R ++ [x]).getD j d = R.getD j d) ∨ (j = R.length ∧ (R ++ [x]).getD j d = x) := by
  rw [List.length_append] at h
  have h' : j < R.length + 1 := h
  by_cases c : j < R.length
  · exact Or.inl ⟨c, fw_al c⟩
  · have e : j = R.length := by omega
    subst e
    exact Or.inr ⟨rfl, fw_ar⟩
theorem fw_la {α : Type} (R : List α) (x : α) : (R ++ [x]).length = R.length + 1 := by
  rw [List.length_append]
  rfl
theorem fw_Ls_add {B : List Nat} {c : Nat} {fl : Int32} {a1 a2 a3 a4 : Nat → Int32} (h : fw_Ls B fl a1 a2 a3 a4) (hl : B.length < 5) (hc : c < 256) (h1 : fw_lf c < 3) (h2 : fw_lt c < 3) :
    fw_Ls (B ++ [c]) (nI (B.length + 1)) (upd a1 B.length (nI (fw_lf c))) (upd a2 B.length (nI (fw_lt c))) (upd a3 B.length (nI (fw_lp c))) (upd a4 B.length (nI (fw_lq c))) := by
  obtain ⟨_, _, l3, l4⟩ := h
  refine ⟨by rw [fw_la], by rw [fw_la]; omega, fun j hj => ?_, fun j hj => ?_⟩
  · rcases fw_ga (d := 0) hj with ⟨e1, e2⟩ | ⟨e1, e2⟩
    · rw [e2]
      exact l3 j e1
    · rw [e2]
      exact ⟨hc, h1, h2⟩
  · rcases fw_ga (d := 0) hj with ⟨e1, e2⟩ | ⟨e1, e2⟩
    · rw [e2, pk_un (by omega), pk_un (by omega), pk_un (by omega), pk_un (by omega)]
      exact l4 j e1
    · rw [e2, e1, pk_us, pk_us, pk_us, pk_us]
      exact ⟨rfl, rfl, rfl, rfl⟩
theorem fw_Ls_pop {B : List Nat} {c : Nat} {fl : Int32} {a1 a2 a3 a4 : Nat → Int32} (h : fw_Ls (B ++ [c]) fl a1 a2 a3 a4) : fw_Ls B (nI B.length) a1 a2 a3 a4 := by
  obtain ⟨_, l2, l3, l4⟩ := h
  rw [fw_la] at l2
  refine ⟨rfl, by omega, fun j hj => ?_, fun j hj => ?_⟩
  · have t := l3 j (by rw [fw_la]; omega)
    rw [fw_al hj] at t
    exact t
  · have t := l4 j (by rw [fw_la]; omega)
    rw [fw_al hj] at t
    exact t
theorem fw_T_add {tk : List Nat} {t l a b : Nat} {ft : Int32} {a5 a6 : Nat → Int32} (h : fw_T tk ft a5 a6) (hl : tk.length < 6) (hl3 : l < 3) (ha : a < 8) (hb : b < 8) (ht : t = l + 4 * (8 * a + b)) :
    fw_T (tk ++ [t]) (nI (tk.length + 1)) (upd a5 tk.length (nI l)) (upd a6 tk.length (nI (16 * a + b))) := by
  obtain ⟨_, _, l3⟩ := h
  refine ⟨by rw [fw_la], by rw [fw_la]; omega, fun j hj => ?_⟩
  rcases fw_ga (d := 0) hj with ⟨e1, e2⟩ | ⟨e1, e2⟩
  · rw [e2, pk_un (by omega), pk_un (by omega)]
    exact l3 j e1
  · rw [e2, e1, pk_us, pk_us, show t % 4 = l by omega, show t / 32 = a by omega, show t / 4 % 8 = b by omega]
    exact ⟨by omega, hl3, rfl, rfl⟩
/-- the last token takes the place k -/
theorem fw_swap {tk : List Nat} {k : Nat} (hk : k < tk.length) : ∃ tk' : List Nat, tk'.length + 1 = tk.length ∧ (tk.getD k 0 :: tk').Perm tk ∧ ∀ j, j < tk'.length → tk'.getD j 0 = if j = k then tk.getD tk'.length 0 else tk.getD j 0 := by
  obtain ⟨n, hn⟩ : ∃ n, tk.length = n + 1 := ⟨tk.length - 1, by omega⟩
  obtain ⟨ys, z, hyz, hlen⟩ : ∃ (ys : List Nat) (z : Nat), tk = ys ++ [z] ∧ ys.length = n := by
    refine ⟨tk.take n, tk.getD n 0, ?_, by rw [List.length_take]; omega⟩
    rw [← fw_tk (by omega), ← hn, List.take_length]
  subst hyz
  by_cases c : k = n
  · refine ⟨ys, by rw [fw_la], ?_, fun j hj => ?_⟩
    · rw [c, ← hlen, fw_ar]
      exact (List.perm_append_comm (l₁ := ys) (l₂ := [z])).symm
    · rw [if_neg (by omega), fw_al hj]
  · have hk' : k < ys.length := by omega
    refine ⟨ys.set k z, by rw [fw_la, List.length_set], ?_, fun j hj => ?_⟩
    · rw [fw_al hk', List.set_eq_take_append_cons_drop, if_pos hk']
      have e : ys = ys.take k ++ ys.getD k 0 :: ys.drop (k + 1) := by
        rw [← fw_dr hk', List.take_append_drop]
      generalize ys.getD k 0 = t at *
      generalize ys.take k = pre at *
      generalize ys.drop (k + 1) = suf at *
      rw [e]
      have p1 : (pre ++ t :: suf ++ [z]).Perm (t :: (pre ++ suf) ++ [z]) := List.perm_middle.append_right [z]
      have p2 : (pre ++ suf ++ [z]).Perm (pre ++ z :: suf) := (List.perm_append_comm (l₁ := pre ++ suf) (l₂ := [z])).trans (List.perm_middle (a := z) (l₁ := pre) (l₂ := suf)).symm
      exact (List.Perm.cons t p2.symm).trans p1.symm
    · rw [List.length_set] at hj ⊢
      rw [List.getD_eq_getElem?_getD, List.getElem?_set, fw_ar]
      by_cases c2 : k = j
      · rw [if_pos c2, if_pos hk', if_pos c2.symm]
        rfl
      · rw [if_neg c2, if_neg (fun z => c2 z.symm), fw_al hj, List.getD_eq_getElem?_getD]
theorem fw_sum_perm {R : Nat → List (Nat × Nat)} {xs ys : List Nat} (h : xs.Perm ys) (y : Nat) : fw_sum R xs y = fw_sum R ys y := List.Perm.sum_nat (h.map _)
section
variable {fl ft fg : Int32} {a1 a2 a3 a4 a5 a6 a7 a8 a9 a10 : Nat → Int32} {B tk : List Nat} {R : Nat → List (Nat × Nat)} {post : Int32 → St1 → Prop}
theorem fw_link (h : fw_St B tk R fl ft a1 a2 a3 a4 a5 a6 a7 a8 a10) {c l m p q : Nat} (hlen : B.length < 5) (hl : l < 3) (hm : m < 3) (hp : p ≤ 3) (hq : q ≤ 3) (hc : c = l + 4 * m + 16 * p + 64 * q)
    (H : ∀ R' fg' a1' a2' a3' a4' a7' a8' a9' a10', fw_St (B ++ [c]) tk R' (nI (B.length + 1)) ft a1' a2' a3' a4' a5 a6 a7' a8' a10' → post (nI (B.length + 1)) (nI (B.length + 1), ft, fg', a1', a2', a3', a4', a5, a6, a7', a8', a9', a10')) :
    wpX_link post (fl, ft, fg, a1, a2, a3, a4, a5, a6, a7, a8, a9, a10) (nI l) (nI m) (nI p) (nI q) := by
  obtain ⟨s1, s2, s3, s4, s5⟩ := h
  have hfl := s1.1
  subst hfl
  have c1 : fw_lf c = l := by unfold fw_lf; omega
  have c2 : fw_lt c = m := by unfold fw_lt; omega
  have c3 : fw_lp c = p := by unfold fw_lp; omega
  have c4 : fw_lq c = q := by unfold fw_lq; omega
  have L := fw_Ls_add (c := c) s1 hlen (by omega) (by omega) (by omega)
  rw [c1, c2, c3, c4] at L
  unfold wpX_link
  dsimp only
  rw [nI_clamp (show B.length < 2 ^ 31 by omega)]
  refine fw_isPlace (l := l) (by omega) ?_
  refine br_f fw_n10 ?_
  refine fw_isPlace (l := m) (by omega) ?_
  refine br_f fw_n10 ?_
  refine pk_lt p 0 (fun z => absurd z (by omega)) (fun _ => pk_lt 3 p (fun z => absurd z (by omega)) (fun _ => pk_lt q 0 (fun z => absurd z (by omega)) (fun _ => pk_lt 3 q (fun z => absurd z (by omega)) (fun _ => pk_lt B.length 12 (fun _ => ?_) (fun z => absurd z (by omega))))))
  refine ⟨pk_in B.length 12 (by omega), nm_e ⟨pk_in B.length 12 (by omega), nm_e ⟨pk_in B.length 12 (by omega), nm_e ⟨pk_in B.length 12 (by omega), nm_e (nm_r (nI_1 _) ?_)⟩⟩⟩⟩
  exact fw_rebuild L s2 (fun fg' a7' a8' a9' a10' R' h1 h2 h3 => H _ _ _ _ _ _ _ _ _ _ ⟨L, s2, h2, h1, h3⟩)
theorem fw_unlink {c : Nat} (h : fw_St (B ++ [c]) tk R fl ft a1 a2 a3 a4 a5 a6 a7 a8 a10)
    (H : ∀ R' fg' a7' a8' a9' a10', fw_St B tk R' (nI B.length) ft a1 a2 a3 a4 a5 a6 a7' a8' a10' → post (nI B.length) (nI B.length, ft, fg', a1, a2, a3, a4, a5, a6, a7', a8', a9', a10')) :
    wpX_unlink post (fl, ft, fg, a1, a2, a3, a4, a5, a6, a7, a8, a9, a10) (nI B.length) := by
  obtain ⟨s1, s2, s3, s4, s5⟩ := h
  have hfl := s1.1
  have hl5 := s1.2.1
  rw [fw_la] at hfl hl5
  subst hfl
  have L := fw_Ls_pop s1
  refine pk_lt B.length 0 (fun z => absurd z (by omega)) (fun _ => pk_lt B.length (B.length + 1) (fun _ => nm_r (nI_pred _) ⟨1, ?_⟩) (fun z => absurd z (by omega)))
  refine pk_le B.length B.length (fun _ => ?_) (fun z => absurd z (by omega))
  exact fw_rebuild L s2 (fun fg' a7' a8' a9' a10' R' h1 h2 h3 => H _ _ _ _ _ _ ⟨L, s2, h2, h1, h3⟩)
theorem fw_hits_t (R : Nat → List (Nat × Nat)) {t l a b : Nat} (hl : l < 3) (ha : a < 8) (hb : b < 8) (ht : t = l + 4 * (8 * a + b)) (y : Nat) : fw_hm R l a b y 7 = fw_hits R t y := by
  unfold fw_hits
  rw [show t % 4 = l by omega, show t / 32 = a by omega, show t / 4 % 8 = b by omega]
theorem fw_put (h : fw_St B tk R fl ft a1 a2 a3 a4 a5 a6 a7 a8 a10) {t l a b : Nat} (hlen : tk.length < 6) (hl : l < 3) (ha : a < 8) (hb : b < 8) (ht : t = l + 4 * (8 * a + b))
    (H : ∀ a5' a6' a10', fw_St B (tk ++ [t]) R fl (nI (tk.length + 1)) a1 a2 a3 a4 a5' a6' a7 a8 a10' → post (nI (tk.length + 1)) (fl, nI (tk.length + 1), fg, a1, a2, a3, a4, a5', a6', a7, a8, a9, a10')) :
    wpX_put post (fl, ft, fg, a1, a2, a3, a4, a5, a6, a7, a8, a9, a10) (nI l) (nI a) (nI b) := by
  obtain ⟨s1, s2, s3, s4, s5⟩ := h
  have hft := s2.1
  subst hft
  have T := fw_T_add s2 hlen hl ha hb ht
  have E : 16 * nI a + nI b = nI (16 * a + b) := by rw [show 16 * nI a = nI (16 * a) from pk_mul 16 a, nI_add]
  unfold wpX_put
  dsimp only
  rw [nI_clamp (show tk.length < 2 ^ 31 by omega), E]
  refine fw_isPlace (l := l) (by omega) ?_
  refine br_f fw_n10 ?_
  refine fw_isTime (a := a) (b := b) (by omega) (by omega) ?_
  refine br_f fw_n10 ?_
  refine pk_lt tk.length 20 (fun _ => ⟨pk_in tk.length 20 (by omega), nm_e ⟨pk_in tk.length 20 (by omega), nm_e (nm_r (nI_1 _) ?_)⟩⟩) (fun z => absurd z (by omega))
  refine fw_count (l := l) (a := a) (b := b) (by omega) (by omega) (by omega) s3 (fun l m hl hm e he => fw_bF s4 hl hm he) rfl rfl (fun a10' h' => H _ _ _ ⟨s1, T, s3, s4, fun y hy => ?_⟩)
  show a10' y = _
  rw [h' y hy, s5 y hy, fw_sum_app, fw_1m, fw_hits_t R hl ha hb ht]
theorem fw_m1m (h s : Nat) : nI (h + s) + (-1) * nI h = nI s := by
  rw [← nI_add]
  grind
theorem fw_take (h : fw_St B tk R fl ft a1 a2 a3 a4 a5 a6 a7 a8 a10) {t l a b : Nat} (hl : l < 3) (ha : a < 8) (hb : b < 8) (ht : t = l + 4 * (8 * a + b))
    (H1 : ∀ tk' a5' a6' a10', t ∈ tk → (t :: tk').Perm tk → fw_St B tk' R fl (nI tk'.length) a1 a2 a3 a4 a5' a6' a7 a8 a10' → post (nI tk'.length) (fl, nI tk'.length, fg, a1, a2, a3, a4, a5', a6', a7, a8, a9, a10'))
    (H0 : t ∉ tk → post (-1) (fl, ft, fg, a1, a2, a3, a4, a5, a6, a7, a8, a9, a10)) :
    wpX_take post (fl, ft, fg, a1, a2, a3, a4, a5, a6, a7, a8, a9, a10) (nI l) (nI a) (nI b) := by
  obtain ⟨s1, s2, s3, s4, s5⟩ := id h
  have hft := s2.1
  subst hft
  have E : 16 * nI a + nI b = nI (16 * a + b) := by rw [show 16 * nI a = nI (16 * a) from pk_mul 16 a, nI_add]
  unfold wpX_take
  dsimp only
  rw [E]
  refine fw_isPlace (l := l) (by omega) ?_
  refine br_f fw_n10 ?_
  refine fw_isTime (a := a) (b := b) (by omega) (by omega) ?_
  refine br_f fw_n10 ?_
  refine fw_tokenAt h hl ha hb (fun k hk e => ?_) (fun hn => br_f (show ¬ (0 : Int32) ≤ -1 by decide) (H0 (by rw [ht]; exact hn)))
  rw [← ht] at e
  obtain ⟨tk', w1, w2, w3⟩ := fw_swap hk
  rw [e] at w2
  have hlen := s2.2.1
  obtain ⟨_, _, t3⟩ := s2
  have hmem : t ∈ tk := by
    rw [← e]
    exact fw_gm hk
  unfold wX_take_30
  rw [E]
  refine br_t (nI_pos' (by omega)) (nm_r (show nI tk.length - 1 = nI tk'.length by rw [← w1]; exact nI_pred _) ⟨pk_in tk'.length 20 (by omega), pk_in k 20 (by omega), ?_⟩)
  rw [nI_clamp (show tk'.length < 2 ^ 31 by omega), nI_clamp (show k < 2 ^ 31 by omega)]
  refine nm_e ⟨pk_in tk'.length 20 (by omega), pk_in k 20 (by omega), nm_e ?_⟩
  have T : fw_T tk' (nI tk'.length) (upd a5 k (a5 tk'.length)) (upd a6 k (a6 tk'.length)) := by
    refine ⟨rfl, by omega, fun j hj => ?_⟩
    rw [w3 j hj]
    by_cases c : j = k
    · rw [if_pos c, c, pk_us, pk_us]
      exact t3 _ (by omega)
    · rw [if_neg c, pk_un c, pk_un c]
      exact t3 j (by omega)
  refine fw_count (l := l) (a := a) (b := b) (by omega) (by omega) (by omega) s3 (fun l m hl hm e he => fw_bF s4 hl hm he) rfl rfl (fun a10' h' => H1 _ _ _ _ hmem w2 ⟨s1, T, s3, s4, fun y hy => ?_⟩)
  show a10' y = _
  rw [h' y hy, s5 y hy, ← fw_sum_perm w2 y, fw_sum_c, fw_hits_t R hl ha hb ht, fw_m1m]
end
theorem fw_init {post : St1 → Prop} (H : ∀ R fg a7 a8 a9 a10, fw_St [] [] R 0 0 (fun _ => 0) (fun _ => 0) (fun _ => 0) (fun _ => 0) (fun _ => 0) (fun _ => 0) a7 a8 a10 → post (0, 0, fg, (fun _ => 0), (fun _ => 0), (fun _ => 0), (fun _ => 0), (fun _ => 0), (fun _ => 0), a7, a8, a9, a10)) :
    wpX_init post 10 2900 (0, 0, 0) := by
  have L : fw_Ls [] 0 (fun _ => 0) (fun _ => 0) (fun _ => 0) (fun _ => 0) := ⟨rfl, Nat.zero_le _, fun j hj => absurd hj (Nat.not_lt_zero _), fun j hj => absurd hj (Nat.not_lt_zero _)⟩
  have T : fw_T [] 0 (fun _ => 0) (fun _ => 0) := ⟨rfl, Nat.zero_le _, fun j hj => absurd hj (Nat.not_lt_zero _)⟩
  unfold wpX_init
  dsimp only
  refine ⟨by decide, by decide, by decide, by decide, by decide, by decide, by decide, by decide, by decide, by decide, by decide, by decide, by decide, by decide, by decide, by decide, by decide, by decide, by decide, by decide, ?_⟩
  exact fw_rebuild L T (fun fg' a7' a8' a9' a10' R' h1 h2 h3 => H _ _ _ _ _ _ ⟨L, T, h2, h1, h3⟩)
end
section
/-! ===== the law's sets against the rows ===== -/
theorem fw_A_c {B : List Nat} {T T' : Nat → Prop} {m : Nat} {r : Int64} (h : fw_A B T m r) (e : ∀ x, T x ↔ T' x) : fw_A B T' m r :=
  ⟨fun t ht hb => let ⟨x, x1, x2⟩ := h.1 t ht hb; ⟨x, (e x).mp x1, x2⟩, fun x hx => h.2 x ((e x).mpr hx)⟩
section
variable {B : List Nat} {T : Nat → Prop} {m : Nat} {r : Int64} {R : Nat → List (Nat × Nat)}
theorem fw_F1 (hF : fw_F B R) (hT : ∀ x, T x → x % 4 < 3) (hm : m < 3) (A : fw_A B T m r) {t : Nat} (ht : t < 64) (hb : fw_b r t) : ∃ x y, x ≤ t / 8 ∧ y ≤ t % 8 ∧ fw_H R T m x y := by
  obtain ⟨x, x1, j, p, q, x2, x3, x4⟩ := A.1 t ht hb
  have hx := hT x x1
  obtain ⟨e, e1, e2, e3⟩ := hF.2 j (x % 4) m p q (by omega) (by omega) x2
  exact ⟨x / 32 + e.1, x / 4 % 8 + e.2, by omega, by omega, x, x1, e, e1, rfl, rfl⟩
theorem fw_F2 (hF : fw_F B R) (hT : ∀ x, T x → x % 4 < 3) (hm : m < 3) (A : fw_A B T m r) {x y : Nat} (hx : x < 8) (hy : y < 8) (h : fw_H R T m x y) : fw_b r (8 * x + y) := by
  obtain ⟨t, t1, e, e1, e2, e3⟩ := h
  have ht := hT t t1
  obtain ⟨j, j1, j2⟩ := (hF.1 (t % 4) m (by omega) (by omega)).2 e e1
  have u := A.2 t t1 j e.1 e.2 (by omega) j2 (by omega) (by omega)
  rw [e2, e3] at u
  exact u
theorem fw_BH (hF : fw_F B R) (hT : ∀ x, T x → x % 4 < 3) (hm : m < 3) (A : fw_A B T m r) {a b : Nat} (ha : a < 8) (hb : b < 8) : fw_Be r a b ↔ ∃ x y, x ≤ a ∧ y ≤ b ∧ fw_H R T m x y := by
  constructor
  · rintro ⟨t, t1, t2, t3, t4⟩
    obtain ⟨x, y, x1, x2, x3⟩ := fw_F1 hF hT hm A t1 t2
    exact ⟨x, y, by omega, by omega, x3⟩
  · rintro ⟨x, y, x1, x2, x3⟩
    exact ⟨8 * x + y, by omega, fw_F2 hF hT hm A (by omega) (by omega) x3, by omega, by omega⟩
end
/-! ===== the law's 'first': the least bit ===== -/
def fw_Q (r : Int64) (t : Nat) : Prop := fw_b r t ∧ (t < 8 ∨ ¬ fw_Be r (t / 8 - 1) (t % 8)) ∧ (t % 8 = 0 ∨ ¬ fw_Be r (t / 8) (t % 8 - 1))
def fw_Fi (r : Int64) (c : Nat) (s : Int32) : Prop :=
  c ≤ 64 ∧ ((∃ t, c ≤ t ∧ t < 64 ∧ fw_Q r t ∧ s = nI t ∧ ∀ t', c ≤ t' → t' < t → ¬ fw_Q r t') ∨ (s = -1 ∧ ∀ t, c ≤ t → t < 64 → ¬ fw_Q r t))
theorem fw_Fi_y {r : Int64} {c : Nat} {s : Int32} (h : fw_Fi r (c + 1) s) (hq : fw_Q r c) : fw_Fi r c (nI c) :=
  ⟨by have := h.1; omega, Or.inl ⟨c, Nat.le_refl _, by have := h.1; omega, hq, rfl, fun t' h1 h2 => absurd h1 (by omega)⟩⟩
theorem fw_Fi_n {r : Int64} {c : Nat} {s : Int32} (h : fw_Fi r (c + 1) s) (hq : ¬ fw_Q r c) : fw_Fi r c s := by
  obtain ⟨h0, h⟩ := h
  refine ⟨by omega, ?_⟩
  rcases h with ⟨t, t1, t2, t3, t4, t5⟩ | ⟨h1, h2⟩
  · refine Or.inl ⟨t, by omega, t2, t3, t4, fun t' u1 u2 => ?_⟩
    by_cases c' : t' = c
    · rw [c']
      exact hq
    · exact t5 t' (by omega) u2
  · refine Or.inr ⟨h1, fun t u1 u2 => ?_⟩
    by_cases c' : t = c
    · rw [c']
      exact hq
    · exact h2 t (by omega) u2
theorem fw_Q_least {r : Int64} {t : Nat} (ht : t < 64) (hb : fw_b r t) (hm : ∀ t', t' < t → ¬ fw_b r t') : fw_Q r t := by
  refine ⟨hb, ?_, ?_⟩
  · by_cases c : t < 8
    · exact Or.inl c
    · right
      rintro ⟨t', u1, u2, u3, u4⟩
      exact hm t' (by omega) u2
  · by_cases c : t % 8 = 0
    · exact Or.inl c
    · right
      rintro ⟨t', u1, u2, u3, u4⟩
      exact hm t' (by omega) u2
theorem fw_Fi_0 {r : Int64} {s : Int32} (h : fw_Fi r 0 s) : (∃ t, t < 64 ∧ s = nI t ∧ fw_b r t ∧ ∀ t', t' < t → ¬ fw_b r t') ∨ (s = -1 ∧ ∀ t, t < 64 → ¬ fw_b r t) := by
  obtain ⟨_, h⟩ := h
  have key : ∀ t, t < 64 → fw_b r t → ∃ t0, t0 ≤ t ∧ t0 < 64 ∧ fw_b r t0 ∧ (∀ t', t' < t0 → ¬ fw_b r t') ∧ fw_Q r t0 := fun t ht hb => by
    obtain ⟨t0, t1, t2⟩ := pk_least (fun t => fw_b r t) ⟨t, hb⟩
    have hle : t0 ≤ t := by
      by_cases c : t < t0
      · exact absurd hb (t2 t c)
      · omega
    exact ⟨t0, hle, by omega, t1, t2, fw_Q_least (by omega) t1 t2⟩
  rcases h with ⟨t, t1, t2, t3, t4, t5⟩ | ⟨h1, h2⟩
  · obtain ⟨t0, u1, u2, u3, u4, u5⟩ := key t t2 t3.1
    have e : t0 = t := by
      by_cases c : t0 < t
      · exact absurd u5 (t5 t0 (Nat.zero_le _) c)
      · omega
    subst e
    exact Or.inl ⟨t0, t2, t4, u3, u4⟩
  · refine Or.inr ⟨h1, fun t ht hb => ?_⟩
    obtain ⟨t0, u1, u2, u3, u4, u5⟩ := key t ht hb
    exact h2 t0 (Nat.zero_le _) u2 u5
section
variable {post : Int32 → Prop} {L : Nat} {xs : Nat → Int32} {J22 : Int64 → Int64 → Int32 → Int32 → Int32 → Int32 → Int32 → Int32 → (Nat → Int32) → (Nat → Int32) → (Nat → Int32) → (Nat → Int32) → (Nat → Int32) → (Nat → Int32) → (Nat → Int32) → (Nat → Int32) → (Nat → Int32) → (Nat → Int32) → Prop} {x2 x4 r : Int64} {x6 x7 : Int32} {kc ks : Nat} {fl ft fg : Int32} {a1 a2 a3 a4 a5 a6 a7 a8 a9 a10 : Nat → Int32} {B tk : List Nat} {R : Nat → List (Nat × Nat)}
theorem fw_l598 {J : Int32 → Int32 → Prop} {m i c : Nat} {s x8 x11 : Int32} (hc : c < 64) (HY : (c % 8 = 0 ∨ ¬ fw_Be r (c / 8) (c % 8 - 1)) → J (nI c) (nI c + (-1))) (HN : ¬ (c % 8 = 0 ∨ ¬ fw_Be r (c / 8) (c % 8 - 1)) → J s (nI c + (-1))) :
    wL_law_598 post L xs J22 J x2 x4 x6 x7 x8 x11 r s (nI c) kc ks fl ft fg a1 a2 a3 a4 a5 a6 a7 a8 a9 a10 := by
  have d1 : nI c / 8 = nI (c / 8) := pk_div (a := c) (d := 8) (by omega) (by omega) (by omega)
  have d2 : nI c - nI c / 8 * 8 = nI (c % 8) := pk_rem (a := c) (d := 8) (by omega) (by omega) (by omega)
  unfold wL_law_598
  rw [d2, d1]
  refine ⟨by decide, pk_eq (c % 8) 0 (fun z => nm_e (HY (Or.inl z))) (fun z => ⟨by decide, by decide, ?_⟩)⟩
  rw [show nI (c % 8) - 1 = nI (c % 8 - 1) from pk_sub (a := c % 8) (b := 1) (by omega)]
  refine fw_below (by omega) (by omega) (fun hb => ?_) (fun hb => ?_)
  · exact br_f fw_n10 (nm_e (HN (fun w => w.elim z (fun v => v hb))))
  · exact br_t rfl (nm_e (HY (Or.inr hb)))
theorem fw_l554 (h : fw_St B tk R fl ft a1 a2 a3 a4 a5 a6 a7 a8 a10) {m i : Nat} (hm : m < 3) (A : fw_A B (fun t => t ∈ tk) m r)
    (HJ : J22 x2 x4 x6 x7 (nI (i + 3)) fl ft fg a1 a2 a3 a4 a5 a6 a7 a8 a9 a10) :
    ∃ n, wL_law_554 post L xs J22 x2 x4 x6 x7 (nI i) (nI m) r kc ks fl ft fg a1 a2 a3 a4 a5 a6 a7 a8 a9 a10 n (-1) 63 := by
  have hF : fw_F B R := h.2.2.2.1
  have hT : ∀ x, x ∈ tk → x % 4 < 3 := fun x hx => (fw_T_m h.2.1 hx).2
  have E3 : nI i + 3 = nI (i + 3) := nI_add i 3
  have W := pk_loopD (fun n c (s : Int32) => wL_law_554 post L xs J22 x2 x4 x6 x7 (nI i) (nI m) r kc ks fl ft fg a1 a2 a3 a4 a5 a6 a7 a8 a9 a10 n s (nI c + (-1))) (fun c s => fw_Fi r c s) ?_ ?_ 64 (-1) ⟨Nat.le_refl _, Or.inr ⟨rfl, fun t h1 h2 => absurd h1 (by omega)⟩⟩
  · have e : nI 64 + (-1) = (63 : Int32) := by decide
    rw [e] at W
    exact ⟨_, W⟩
  · intro n s hs
    refine br_t (show nI 0 + (-1) < (0 : Int32) by decide) ?_
    have R4 : ∀ x y : Nat, x < 16 → y < 16 → nI (16 * x + y) >>> ((4 : Int32) &&& 31) = nI x := fun x y hx hy => by
      rw [pk_shrN (n := 16 * x + y) (by omega) ((4 : Int32) &&& 31) 4 (by decide)]
      rw [show (16 * x + y) / 2 ^ 4 = x from by omega]
    have R5 : ∀ x y : Nat, x < 16 → y < 16 → nI (16 * x + y) &&& 15 = nI y := fun x y hx hy => by
      rw [pk_andN (n := 16 * x + y) (by omega) (m := 15) 4 (by decide)]
      rw [show (16 * x + y) % 2 ^ 4 = y from by omega]
    rcases fw_Fi_0 hs with ⟨t, t1, t2, t3, t4⟩ | ⟨t1, t2⟩
    · subst t2
      have d1 : nI t / 8 = nI (t / 8) := pk_div (a := t) (d := 8) (by omega) (by omega) (by omega)
      have d2 : nI t - nI (t / 8) * 8 = nI (t % 8) := by
        rw [← d1]
        exact pk_rem (a := t) (d := 8) (by omega) (by omega) (by omega)
      have HH : fw_H R (fun t => t ∈ tk) m (t / 8) (t % 8) := by
        obtain ⟨x, y, h1, h2, h3⟩ := fw_F1 hF hT hm A t1 t3
        have hb := fw_F2 hF hT hm A (x := x) (y := y) (by omega) (by omega) h3
        have hge : ¬ 8 * x + y < t := fun z => t4 _ z hb
        rw [show t / 8 = x by omega, show t % 8 = y by omega]
        exact h3
      refine fw_frontAt h (by omega) (fun x y hx hy hH hl => ?_) (fun hn => absurd HH (hn _ _ (by omega) (by omega)))
      refine br_f (nI_pos (by omega)) ⟨by decide, by decide, ?_⟩
      rw [d1, d2, show 16 * nI (t / 8) = nI (16 * (t / 8)) from pk_mul 16 _, nI_add, R4 x y hx hy]
      refine pk_eq (16 * x + y) (16 * (t / 8) + t % 8) (fun _ => nm_r E3 HJ) (fun z => ⟨by decide, pk_lt x (t / 8) (fun _ => nm_r E3 HJ) (fun z2 => ?_)⟩)
      exfalso
      have u1 : ¬ 16 * (t / 8) + t % 8 < 16 * x + y := fun w => hl _ _ (by omega) w HH
      have hb := fw_F2 hF hT hm A (x := x) (y := y) (by omega) (by omega) hH
      have hge : ¬ 8 * x + y < t := fun z => t4 _ z hb
      omega
    · subst t1
      refine fw_frontAt h (by omega) (fun x y hx hy hH hl => ?_) (fun hn => br_t (by decide) (br_t (by decide) (nm_r E3 HJ)))
      refine br_t (by decide) (br_f (nI_pos (by omega)) ?_)
      rw [R4 x y hx hy, R5 x y hx hy]
      refine pk_le 8 x (fun _ => nm_r E3 HJ) (fun z1 => pk_le 8 y (fun _ => nm_r E3 HJ) (fun z2 => ?_))
      exact absurd (fw_F2 hF hT hm A (x := x) (y := y) (by omega) (by omega) hH) (t2 _ (by omega))
  · intro n c s hs hw
    have hc : c < 64 := by have := hs.1; omega
    have E : nI (c + 1) + (-1) = nI c := pk_m1 c
    have KN : ¬ fw_Q r c → wL_law_554 post L xs J22 x2 x4 x6 x7 (nI i) (nI m) r kc ks fl ft fg a1 a2 a3 a4 a5 a6 a7 a8 a9 a10 n s (nI c + (-1)) := fun hq => hw s (fw_Fi_n hs hq)
    have KY : fw_Q r c → wL_law_554 post L xs J22 x2 x4 x6 x7 (nI i) (nI m) r kc ks fl ft fg a1 a2 a3 a4 a5 a6 a7 a8 a9 a10 n (nI c) (nI c + (-1)) := fun hq => hw _ (fw_Fi_y hs hq)
    have d1 : nI c / 8 = nI (c / 8) := pk_div (a := c) (d := 8) (by omega) (by omega) (by omega)
    have d2 : nI c - nI (c / 8) * 8 = nI (c % 8) := by
      rw [← d1]
      exact pk_rem (a := c) (d := 8) (by omega) (by omega) (by omega)
    rw [E]
    refine br_f (nI_pos (by omega)) (ek_if (fw_b_t hc) (fun hbit => ?_) (fun hbit => nm_e (KN (fun z => hbit z.1))))
    refine pk_lt c 8 (fun z => fw_l598 (m := m) (i := i) hc (fun w => KY ⟨hbit, Or.inl z, w⟩) (fun w => KN (fun q => w q.2.2))) (fun z => ⟨by decide, by decide, ?_⟩)
    rw [d1, d2, show nI (c / 8) - 1 = nI (c / 8 - 1) from pk_sub (a := c / 8) (b := 1) (by omega)]
    refine fw_below (by omega) (by omega) (fun hb => br_f fw_n10 (nm_e (KN (fun q => q.2.1.elim (fun w => absurd w (by omega)) (fun w => w hb))))) (fun hb => br_t rfl ?_)
    exact fw_l598 (m := m) (i := i) hc (fun w => KY ⟨hbit, Or.inr hb, w⟩) (fun w => KN (fun q => w q.2.2))
end
end
section
/-! ===== packed bytes: one more, the last away, one taken out ===== -/
theorem fw_or {k p a b : Nat} (hp : 2 ^ k = p) (ha : a < p) (h : a + b * p < 2 ^ 64) : lN a ||| lN (b * p) = lN (a + b * p) := by
  subst hp
  have h1 : b * 2 ^ k ||| a = b * 2 ^ k + a := by rw [← Nat.shiftLeft_eq, Nat.shiftLeft_add_eq_or_of_lt ha]
  rw [wb_or (by omega) (by omega), Nat.or_comm, h1, Nat.add_comm]
theorem fw_1sh {k : Nat} (hk : k < 64) : ((1 : Int64) <<< ((nI k).toInt64 &&& 63)) - 1 = lN (2 ^ k - 1) := by
  have e : (1 : Int64) <<< ((nI k).toInt64 &&& 63) = lN (1 * 2 ^ k) := wb_shl 1 hk
  rw [e, Nat.one_mul]
  exact lN_sub (b := 1) (Nat.one_le_two_pow)
theorem fw_hi {y k : Nat} (hk : k < 64) : lN y &&& (lN (2 ^ k - 1) ^^^ (-1)) = lN (y / 2 ^ k * 2 ^ k) := by
  have ha : (-1 : Int64).toBitVec = BitVec.allOnes 64 := by decide
  apply wb_inj
  rw [Int64.toBitVec_and, Int64.toBitVec_xor, ha, wb_tb, wb_tb, wb_tb]
  apply BitVec.eq_of_getLsbD_eq
  intro i hi
  rw [BitVec.getLsbD_and, BitVec.getLsbD_xor, BitVec.getLsbD_allOnes, BitVec.getLsbD_ofNat, BitVec.getLsbD_ofNat, BitVec.getLsbD_ofNat, Nat.testBit_two_pow_sub_one, ← Nat.shiftLeft_eq, ← Nat.shiftRight_eq_div_pow, Nat.testBit_shiftLeft, Nat.testBit_shiftRight]
  by_cases c : i < k
  · simp [hi, c]
    intro h
    omega
  · simp [hi, c, show k ≤ i by omega, show k + (i - k) = i by omega]
theorem fw_By_add {ls : List Nat} {c : Nat} (h : fw_By ls) (hc : c < 256) : fw_By (ls ++ [c]) := by
  intro j hj
  rcases fw_ga (d := 0) hj with ⟨e1, e2⟩ | ⟨e1, e2⟩
  · rw [e2]
    exact h j e1
  · rw [e2]
    exact hc
theorem fw_pk_1 (ls : List Nat) (c : Nat) : fw_pk (ls ++ [c]) = fw_pk ls + c * 256 ^ ls.length := by
  rw [fw_pk_app]
  show fw_pk ls + 256 ^ ls.length * (c + 256 * 0) = _
  rw [Nat.mul_zero, Nat.add_zero, Nat.mul_comm]
theorem fw_push {ls : List Nat} {c : Nat} {v : Int32} (h : fw_By ls) (hl : ls.length ≤ 5) (hc : c < 256) (hv : v = nI c) : lN (fw_pk ls) ||| (v.toInt64 <<< ((8 * nI ls.length).toInt64 &&& 63)) = lN (fw_pk (ls ++ [c])) := by
  have e : (8 : Int32) * nI ls.length = nI (8 * ls.length) := pk_mul 8 _
  have hp := fw_pk_lt ls h
  have h2 : fw_pk (ls ++ [c]) < 2 ^ 48 := fw_p48 (fw_By_add h hc) (by rw [fw_la]; omega)
  rw [fw_pk_1] at h2 ⊢
  rw [hv, nI_l (by omega), e, wb_shl _ (by omega), fw_2p]
  exact fw_or (fw_2p _) hp (by omega)
theorem fw_popl {ls : List Nat} {c : Nat} (h : fw_By (ls ++ [c])) (hl : ls.length ≤ 5) : lN (fw_pk (ls ++ [c])) &&& (((1 : Int64) <<< ((8 * nI ls.length).toInt64 &&& 63)) - 1) = lN (fw_pk ls) := by
  have e : (8 : Int32) * nI ls.length = nI (8 * ls.length) := pk_mul 8 _
  have h2 : fw_pk (ls ++ [c]) < 2 ^ 48 := fw_p48 h (by rw [fw_la]; omega)
  have hls : fw_By ls := fw_By_i (fun b hb => fw_By_m h (List.mem_append.mpr (Or.inl hb)))
  have hp := fw_pk_lt ls hls
  rw [e, fw_1sh (by omega), wb_mask (by omega) (by omega), fw_2p, fw_pk_1, Nat.add_mul_mod_self_right, Nat.mod_eq_of_lt hp]
theorem fw_cut {ps ss : List Nat} {t : Nat} (h : fw_By (ps ++ t :: ss)) (hl : (ps ++ t :: ss).length ≤ 6) :
    (lN (fw_pk (ps ++ t :: ss)) &&& (((1 : Int64) <<< ((8 * nI ps.length).toInt64 &&& 63)) - 1)) ||| (((lN (fw_pk (ps ++ t :: ss))).toUInt64 >>> ((8 : Int32).toInt64.toUInt64 &&& Int64.toUInt64 63)).toInt64 &&& ((((1 : Int64) <<< ((8 * nI ps.length).toInt64 &&& 63)) - 1) ^^^ (-1))) = lN (fw_pk (ps ++ ss)) := by
  have e : (8 : Int32) * nI ps.length = nI (8 * ps.length) := pk_mul 8 _
  have h2 : fw_pk (ps ++ t :: ss) < 2 ^ 48 := fw_p48 h hl
  have hps : fw_By ps := fw_By_i (fun b hb => fw_By_m h (List.mem_append.mpr (Or.inl hb)))
  have hss : fw_By ss := fw_By_i (fun b hb => fw_By_m h (List.mem_append.mpr (Or.inr (List.mem_cons_of_mem _ hb))))
  have ht : t < 256 := fw_By_m h (List.mem_append.mpr (Or.inr (List.mem_cons_self ..)))
  have hp := fw_pk_lt ps hps
  rw [List.length_append, List.length_cons] at hl
  have h3 : fw_pk (ps ++ ss) < 2 ^ 48 := fw_p48 (fw_By_i (fun b hb => (List.mem_append.mp hb).elim (fw_By_m hps) (fw_By_m hss))) (by rw [List.length_append]; omega)
  have s8 : ((lN (fw_pk (ps ++ t :: ss))).toUInt64 >>> ((8 : Int32).toInt64.toUInt64 &&& Int64.toUInt64 63)).toInt64 = lN (fw_pk (ps ++ t :: ss) / 2 ^ 8) := wb_shr (k := 8) (by omega) (by omega)
  rw [e, fw_1sh (by omega), s8, wb_mask (by omega) (by omega), fw_hi (by omega), fw_2p]
  have k1 : fw_pk (ps ++ t :: ss) = fw_pk ps + 256 ^ ps.length * (t + 256 * fw_pk ss) := fw_pk_app ps (t :: ss)
  have k2 : fw_pk (ps ++ ss) = fw_pk ps + fw_pk ss * 256 ^ ps.length := by rw [fw_pk_app, Nat.mul_comm]
  have k3 : fw_pk (ps ++ t :: ss) % 256 ^ ps.length = fw_pk ps := by rw [k1, Nat.add_mul_mod_self_left, Nat.mod_eq_of_lt hp]
  have k4 : fw_pk (ps ++ t :: ss) / 2 ^ 8 / 256 ^ ps.length = fw_pk ss := by
    rw [Nat.div_div_eq_div_mul, Nat.mul_comm, ← Nat.div_div_eq_div_mul, k1, Nat.add_mul_div_left _ _ (Nat.pow_pos (by decide)), Nat.div_eq_of_lt hp]
    omega
  rw [k3, k4, k2]
  rw [k2] at h3
  exact fw_or (fw_2p _) hp (by omega)
theorem fw_tok : ∀ l, l < 3 → ∀ v, v < 64 → nI l ||| (nI v <<< ((2 : Int32) &&& 31)) = nI (l + 4 * v) := by decide +kernel
theorem fw_lin : ∀ l, l < 3 → ∀ m, m < 3 → ∀ p, p < 4 → ∀ q, q < 4 → ((nI l ||| (nI m <<< ((2 : Int32) &&& 31))) ||| (nI p <<< ((4 : Int32) &&& 31))) ||| (nI q <<< ((6 : Int32) &&& 31)) = nI (l + 4 * m + 16 * p + 64 * q) := by decide +kernel
/-! ===== the law's questions ===== -/
def fw_Lw (B tl tk : List Nat) (x2 x4 : Int64) (x6 x7 : Int32) : Prop := x2 = lN (fw_pk B) ∧ x4 = lN (fw_pk tl) ∧ x6 = nI B.length ∧ x7 = nI tl.length ∧ tl.Perm tk
/-- the invariant of the law's loop -/
def fw_V (x2 x4 : Int64) (x6 x7 fl ft : Int32) (a1 a2 a3 a4 a5 a6 a7 a8 a10 : Nat → Int32) : Prop :=
  ∃ (B tl tk : List Nat) (R : Nat → List (Nat × Nat)), fw_Lw B tl tk x2 x4 x6 x7 ∧ fw_St B tk R fl ft a1 a2 a3 a4 a5 a6 a7 a8 a10
theorem fw_tl {tl tk : List Nat} {ft : Int32} {a5 a6 : Nat → Int32} (hp : tl.Perm tk) (h : fw_T tk ft a5 a6) : fw_By tl ∧ tl.length ≤ 6 ∧ (∀ j, j < tl.length → tl.getD j 0 % 4 < 3) ∧ tl.length = tk.length := by
  have e := hp.length_eq
  refine ⟨fw_By_i (fun b hb => (fw_T_m h (hp.mem_iff.mp hb)).1), by have := h.2.1; omega, fun j hj => (fw_T_m h (hp.mem_iff.mp (fw_gm hj))).2, e⟩
section
variable {post : Int32 → Prop} {L : Nat} {xs : Nat → Int32} {J22 : Int64 → Int64 → Int32 → Int32 → Int32 → Int32 → Int32 → Int32 → (Nat → Int32) → (Nat → Int32) → (Nat → Int32) → (Nat → Int32) → (Nat → Int32) → (Nat → Int32) → (Nat → Int32) → (Nat → Int32) → (Nat → Int32) → (Nat → Int32) → Prop} {x2 x4 : Int64} {x6 x7 : Int32} {kc ks : Nat} {fl ft fg : Int32} {a1 a2 a3 a4 a5 a6 a7 a8 a9 a10 : Nat → Int32}
theorem fw_l406 {i l m a b : Nat} (hV : fw_V x2 x4 x6 x7 fl ft a1 a2 a3 a4 a5 a6 a7 a8 a10) (hi : i + 3 ≤ L) (hL : L ≤ 260) (hl : l < 3) (hm : m < 3) (ha : a < 8) (hb : b < 8)
    (HJ : J22 x2 x4 x6 x7 (nI (i + 3)) fl ft fg a1 a2 a3 a4 a5 a6 a7 a8 a9 a10) :
    wL_law_406 post L xs J22 x2 x4 x6 x7 (nI i) (nI l) (nI m) (nI a) (nI b) (nI (l + 4 * (8 * a + b))) kc ks fl ft fg a1 a2 a3 a4 a5 a6 a7 a8 a9 a10 := by
  obtain ⟨B, tl, tk, R, ⟨e2, e4, e6, e7, hp⟩, h⟩ := hV
  subst e2
  subst e4
  subst e6
  subst e7
  obtain ⟨s1, s2, s3, s4, s5⟩ := id h
  obtain ⟨p1, p2, p3, p4⟩ := fw_tl hp s2
  have hB := s1.2.2.1
  have hB5 := s1.2.1
  have hT : ∀ x, x ∈ tk → x % 4 < 3 := fun x hx => (fw_T_m s2 hx).2
  have E2 : nI i + 2 = nI (i + 2) := nI_add i 2
  unfold wL_law_406
  rw [E2, nI_clamp (show i + 2 < 2 ^ 31 by omega)]
  obtain ⟨s, hs, es⟩ := pk_andE (xs (i + 2) >>> ((10 : Int32) &&& 31)) (m := 7) 3 (by decide)
  obtain ⟨t, ht, et⟩ := pk_andE (xs (i + 2) >>> ((13 : Int32) &&& 31)) (m := 7) 3 (by decide)
  have hs8 : s < 8 := hs
  have ht8 : t < 8 := ht
  refine ⟨pk_in (i + 2) L (by omega) rfl (by omega), nm_r es ⟨pk_in (i + 2) L (by omega) rfl (by omega), nm_r et ?_⟩⟩
  refine fw_times (B := B) (tl := tl) (m := m) (wo := 300) hB hB5 hm p1 p3 p2 (by decide) (fun r hA => ?_)
  have A : fw_A B (fun x => x ∈ tk) m r := fw_A_c hA (fun x => ⟨fun z => hp.mem_iff.mp z.1, fun z => ⟨hp.mem_iff.mpr z, fun w => by have := (fw_T_m s2 z).1; omega⟩⟩)
  have BH := fw_BH s4 hT hm A hs8 ht8
  have Q : ∀ z : Int32, wL_law_478 post L xs J22 (lN (fw_pk B)) (lN (fw_pk tl)) (nI B.length) (nI tl.length) (nI i) (nI l) (nI m) (nI a) (nI b) (nI (l + 4 * (8 * a + b))) r z z kc ks fl ft fg a1 a2 a3 a4 a5 a6 a7 a8 a9 a10 := by
    intro z
    have K : ∃ n, wL_law_554 post L xs J22 (lN (fw_pk B)) (lN (fw_pk tl)) (nI B.length) (nI tl.length) (nI i) (nI m) r kc ks fl ft fg a1 a2 a3 a4 a5 a6 a7 a8 a9 a10 n (-1) 63 := fw_l554 h hm A HJ
    refine br_t rfl ?_
    have G : ∀ r73 : Int32, ((¬ r73 < 0 ∧ l + 4 * (8 * a + b) ∈ tk) ∨ (r73 < 0 ∧ l + 4 * (8 * a + b) ∉ tk)) →
        wpL_times (fun r_74 => (wpX_ready (fun r_75 => (((r73 < 0 → (wL_law_541 post L xs J22 (lN (fw_pk B)) (lN (fw_pk tl)) (nI B.length) (nI tl.length) (nI i) (nI m) r r_75 kc ks fl ft fg a1 a2 a3 a4 a5 a6 a7 a8 a9 a10)) ∧ (¬ r73 < 0 → (wpL_below (fun r_111 => (((r_111 = 0 → (wL_law_542 post L xs J22 (lN (fw_pk B)) (lN (fw_pk tl)) (nI B.length) (nI tl.length) (nI i) (nI m) r 1 r_75 kc ks fl ft fg a1 a2 a3 a4 a5 a6 a7 a8 a9 a10)) ∧ (¬ r_111 = 0 → (wL_law_541 post L xs J22 (lN (fw_pk B)) (lN (fw_pk tl)) (nI B.length) (nI tl.length) (nI i) (nI m) r r_75 kc ks fl ft fg a1 a2 a3 a4 a5 a6 a7 a8 a9 a10))))) () r_74 (nI a) (nI b)))))) (fl, ft, fg, a1, a2, a3, a4, a5, a6, a7, a8, a9, a10) (nI l) (nI a) (nI b))) () (lN (fw_pk B)) (nI B.length) (lN (fw_pk tl)) (nI tl.length) (nI l) (nI (l + 4 * (8 * a + b))) := by
      intro r73 h73
      refine fw_times (B := B) (tl := tl) (m := l) (wo := l + 4 * (8 * a + b)) hB hB5 hl p1 p3 p2 (by omega) (fun r' hA' => ?_)
      have A' : fw_A B (fun x => x ∈ tk ∧ x ≠ l + 4 * (8 * a + b)) l r' := fw_A_c hA' (fun x => ⟨fun z => ⟨hp.mem_iff.mp z.1, z.2⟩, fun z => ⟨hp.mem_iff.mpr z.1, z.2⟩⟩)
      have BH' := fw_BH s4 (fun x hx => hT x hx.1) hl A' ha hb
      have RC : fw_Be r' a b ↔ ∃ t, (t ∈ tk ∧ t ≠ l + 4 * (8 * a + b)) ∧ fw_Rc R l a b t := by
        rw [BH']
        constructor
        · rintro ⟨x, y, x1, y1, t, t1, e, e1, e2, e3⟩
          exact ⟨t, t1, e, e1, by omega, by omega⟩
        · rintro ⟨t, t1, e, e1, e2, e3⟩
          exact ⟨_, _, e2, e3, t, t1, e, e1, rfl, rfl⟩
      refine fw_ready h hl ha hb (fun hin hno => ?_) (fun hyes => ?_)
      · rcases h73 with ⟨k1, k2⟩ | ⟨k1, k2⟩
        · refine br_f k1 ?_
          exact fw_below (by omega) (by omega) (fun hbe => absurd (RC.mp hbe) hno) (fun _ => br_t rfl (br_t rfl K))
        · exact absurd hin k2
      · rcases h73 with ⟨k1, k2⟩ | ⟨k1, k2⟩
        · refine br_f k1 ?_
          exact fw_below (by omega) (by omega) (fun _ => br_f fw_n10 (br_t rfl K)) (fun hbe => absurd (RC.mpr (hyes k2)) hbe)
        · exact br_t k1 (br_t rfl K)
    refine fw_find p1 p2 (by omega) (fun j hj ej => G _ (Or.inl ⟨nI_pos (by omega), ?_⟩)) (fun hn => G _ (Or.inr ⟨by decide, fun w => hn (hp.mem_iff.mpr w)⟩))
    rw [← ej]
    exact hp.mem_iff.mp (fw_gm hj)
  refine fw_possible h (by omega) (by omega) (by omega) (fun hy => ?_) (fun hn => ?_)
  · exact fw_below (by omega) (by omega) (fun _ => br_f fw_n10 (Q 1)) (fun hbe => absurd (BH.mpr hy) hbe)
  · exact fw_below (by omega) (by omega) (fun hbe => absurd (BH.mp hbe) hn) (fun _ => br_t rfl (Q 0))
end
end
section
/-! ===== the law's loop ===== -/
def fw_At (tl : List Nat) (tok : Nat) (x : Int32) : Prop := (∃ k, k < tl.length ∧ tl.getD k 0 = tok ∧ x = nI k) ∨ (tok ∉ tl ∧ x = -1)
theorem fw_find2 {post : Int32 → Prop} {tl : List Nat} {tok : Nat} (hb : fw_By tl) (hl : tl.length ≤ 6) (ht : tok < 256) (H : ∀ x, fw_At tl tok x → post x) : wpL_find post () (lN (fw_pk tl)) (nI tl.length) (nI tok) :=
  fw_find hb hl ht (fun i h1 h2 => H _ (Or.inl ⟨i, h1, h2, rfl⟩)) (fun h => H _ (Or.inr ⟨h, rfl⟩))
section
variable {post : Int32 → Prop} {L : Nat} {xs : Nat → Int32} {J22 : Int64 → Int64 → Int32 → Int32 → Int32 → Int32 → Int32 → Int32 → (Nat → Int32) → (Nat → Int32) → (Nat → Int32) → (Nat → Int32) → (Nat → Int32) → (Nat → Int32) → (Nat → Int32) → (Nat → Int32) → (Nat → Int32) → (Nat → Int32) → Prop} {kc ks : Nat} {fl ft fg x9 x17 : Int32} {a1 a2 a3 a4 a5 a6 a7 a8 a9 a10 : Nat → Int32} {B tl tk : List Nat} {R : Nat → List (Nat × Nat)} {i l m a b : Nat}
theorem fw_l279 (hp : tl.Perm tk) (h : fw_St B tk R fl ft a1 a2 a3 a4 a5 a6 a7 a8 a10) (hi : i + 3 ≤ L) (hL : L ≤ 260) (hl : l < 3) (hm : m < 3) (ha : a < 8) (hb : b < 8) (hf : fw_At tl (l + 4 * (8 * a + b)) x17)
    (HJ : ∀ x2 x4 x6 x7 fl ft fg a1 a2 a3 a4 a5 a6 a7 a8 a9 a10, fw_V x2 x4 x6 x7 fl ft a1 a2 a3 a4 a5 a6 a7 a8 a10 → J22 x2 x4 x6 x7 (nI (i + 3)) fl ft fg a1 a2 a3 a4 a5 a6 a7 a8 a9 a10) :
    wL_law_279 post L xs J22 (lN (fw_pk B)) (lN (fw_pk tl)) (nI B.length) (nI tl.length) (nI i) x9 (nI l) (nI m) (nI a) (nI b) (nI (l + 4 * (8 * a + b))) x17 kc ks fl ft fg a1 a2 a3 a4 a5 a6 a7 a8 a9 a10 := by
  obtain ⟨s1, s2, s3, s4, s5⟩ := id h
  obtain ⟨p1, p2, p3, p4⟩ := fw_tl hp s2
  have V0 : fw_V (lN (fw_pk B)) (lN (fw_pk tl)) (nI B.length) (nI tl.length) fl ft a1 a2 a3 a4 a5 a6 a7 a8 a10 := ⟨B, tl, tk, R, ⟨rfl, rfl, rfl, rfl, hp⟩, h⟩
  unfold wL_law_279
  refine br_c (fun _ => ?_) (fun _ => ?_)
  · refine fw_take h hl ha hb rfl (fun tk' a5' a6' a10' hin hperm hst => ?_) (fun hnot => ?_)
    · rcases hf with ⟨k, k1, k2, k3⟩ | ⟨k1, k2⟩
      · subst k3
        obtain ⟨ps, ss, e1, e2⟩ : ∃ ps ss, tl = ps ++ (l + 4 * (8 * a + b)) :: ss ∧ ps.length = k := ⟨tl.take k, tl.drop (k + 1), by rw [← k2, ← fw_dr k1, List.take_append_drop], by rw [List.length_take]; omega⟩
        subst e1
        subst e2
        have q1 : (ps ++ ss).Perm tk' := List.Perm.cons_inv (List.perm_middle.symm.trans (hp.trans hperm.symm))
        have q2 : (ps ++ (l + 4 * (8 * a + b)) :: ss).length = (ps ++ ss).length + 1 := by
          rw [List.length_append, List.length_append, List.length_cons]
          omega
        have q3 : nI (ps ++ (l + 4 * (8 * a + b)) :: ss).length - 1 = nI (ps ++ ss).length := by
          rw [q2]
          exact nI_pred _
        have q4 := q1.length_eq
        have V : fw_V (lN (fw_pk B)) (lN (fw_pk (ps ++ ss))) (nI B.length) (nI (ps ++ ss).length) fl (nI tk'.length) a1 a2 a3 a4 a5' a6' a7 a8 a10' := ⟨B, ps ++ ss, tk', R, ⟨rfl, rfl, rfl, rfl, q1⟩, hst⟩
        refine br_t (nI_pos' (by omega)) ?_
        unfold wL_law_309
        rw [q3]
        refine br_t (by rw [q4]) (br_f (nI_pos (by omega)) (nm_e (nm_r (fw_cut p1 p2) (nm_e ?_))))
        exact fw_l406 V hi hL hl hm ha hb (HJ _ _ _ _ _ _ _ _ _ _ _ _ _ _ _ _ _ V)
      · exact absurd (hp.mem_iff.mpr hin) k1
    · rcases hf with ⟨k, k1, k2, k3⟩ | ⟨k1, k2⟩
      · exact absurd (hp.mem_iff.mp (by rw [← k2]; exact fw_gm k1)) hnot
      · subst k2
        refine br_f (by decide) (br_t rfl (br_t (by decide) ?_))
        exact fw_l406 V0 hi hL hl hm ha hb (HJ _ _ _ _ _ _ _ _ _ _ _ _ _ _ _ _ _ V0)
  · have hB5 := s1.2.1
    refine pk_le B.length 0 (fun _ => fw_l406 V0 hi hL hl hm ha hb (HJ _ _ _ _ _ _ _ _ _ _ _ _ _ _ _ _ _ V0)) (fun hpos => ?_)
    obtain ⟨B0, c, e1⟩ : ∃ B0 c, B = B0 ++ [c] := ⟨B.take (B.length - 1), B.getD (B.length - 1) 0, by rw [← fw_tk (by omega), show B.length - 1 + 1 = B.length by omega, List.take_length]⟩
    subst e1
    have e : nI (B0 ++ [c]).length - 1 = nI B0.length := by
      rw [fw_la]
      exact nI_pred _
    rw [fw_la] at hB5
    rw [e]
    refine fw_unlink h (fun R' fg' a7' a8' a9' a10' hst => ?_)
    have V : fw_V (lN (fw_pk B0)) (lN (fw_pk tl)) (nI B0.length) (nI tl.length) (nI B0.length) ft a1 a2 a3 a4 a5 a6 a7' a8' a10' := ⟨B0, tl, tk, R', ⟨rfl, rfl, rfl, rfl, hp⟩, hst⟩
    refine br_t rfl (nm_e (nm_r (fw_popl (fun j hj => (s1.2.2.1 j hj).1) (by omega)) ?_))
    exact fw_l406 V hi hL hl hm ha hb (HJ _ _ _ _ _ _ _ _ _ _ _ _ _ _ _ _ _ V)
theorem fw_l224 (hp : tl.Perm tk) (h : fw_St B tk R fl ft a1 a2 a3 a4 a5 a6 a7 a8 a10) (hi : i + 3 ≤ L) (hL : L ≤ 260) (hl : l < 3) (hm : m < 3) (ha : a < 8) (hb : b < 8) (hf : fw_At tl (l + 4 * (8 * a + b)) x17)
    (HJ : ∀ x2 x4 x6 x7 fl ft fg a1 a2 a3 a4 a5 a6 a7 a8 a9 a10, fw_V x2 x4 x6 x7 fl ft a1 a2 a3 a4 a5 a6 a7 a8 a10 → J22 x2 x4 x6 x7 (nI (i + 3)) fl ft fg a1 a2 a3 a4 a5 a6 a7 a8 a9 a10) :
    wL_law_224 post L xs J22 (lN (fw_pk B)) (lN (fw_pk tl)) (nI B.length) (nI tl.length) (nI i) x9 (nI l) (nI m) (nI a) (nI b) (nI (l + 4 * (8 * a + b))) x17 kc ks fl ft fg a1 a2 a3 a4 a5 a6 a7 a8 a9 a10 := by
  obtain ⟨s1, s2, s3, s4, s5⟩ := id h
  obtain ⟨p1, p2, p3, p4⟩ := fw_tl hp s2
  unfold wL_law_224
  refine br_c (fun _ => fw_l279 hp h hi hL hl hm ha hb hf HJ) (fun _ => pk_le 6 tl.length (fun _ => fw_l279 hp h hi hL hl hm ha hb hf HJ) (fun hlt => ?_))
  refine fw_put h (by omega) hl ha hb rfl (fun a5' a6' a10' hst => ?_)
  have V : fw_V (lN (fw_pk B)) (lN (fw_pk (tl ++ [l + 4 * (8 * a + b)]))) (nI B.length) (nI (tl.length + 1)) fl (nI (tk.length + 1)) a1 a2 a3 a4 a5' a6' a7 a8 a10' := ⟨B, tl ++ [l + 4 * (8 * a + b)], tk ++ [l + 4 * (8 * a + b)], R, ⟨rfl, rfl, rfl, by rw [fw_la], hp.append_right _⟩, hst⟩
  refine br_t (by rw [nI_1, p4]) (nm_r (fw_push p1 (by omega) (by omega) rfl) (nm_r (nI_1 _) ?_))
  exact fw_l406 V hi hL hl hm ha hb (HJ _ _ _ _ _ _ _ _ _ _ _ _ _ _ _ _ _ V)
end
theorem fw_l22 {L : Nat} {xs : Nat → Int32} {kc ks : Nat} (hL : L ≤ 260) : ∀ (d j : Nat), j + d = min (L / 3) 30 → ∀ x2 x4 x6 x7 fl ft fg a1 a2 a3 a4 a5 a6 a7 a8 a9 a10, fw_V x2 x4 x6 x7 fl ft a1 a2 a3 a4 a5 a6 a7 a8 a10 →
    wL_law_22 (fun r => r = 1) L xs kc ks (d + 1) x2 x4 x6 x7 (nI (3 * j)) fl ft fg a1 a2 a3 a4 a5 a6 a7 a8 a9 a10 := by
  intro d
  induction d with
  | zero =>
    intro j hj x2 x4 x6 x7 fl ft fg a1 a2 a3 a4 a5 a6 a7 a8 a9 a10 hV
    exact pk_lt L (3 * j + 3) (fun _ => rfl) (fun z => pk_le 90 (3 * j) (fun _ => rfl) (fun w => absurd w (by omega))) rfl (nI_add _ 3)
  | succ d ih =>
    intro j hj x2 x4 x6 x7 fl ft fg a1 a2 a3 a4 a5 a6 a7 a8 a9 a10 hV
    have hj1 : 3 * j + 3 ≤ L := by omega
    have HJ : ∀ x2 x4 x6 x7 fl ft fg a1 a2 a3 a4 a5 a6 a7 a8 a9 a10, fw_V x2 x4 x6 x7 fl ft a1 a2 a3 a4 a5 a6 a7 a8 a10 → wL_law_22 (fun r => r = 1) L xs kc ks (d + 1) x2 x4 x6 x7 (nI (3 * j + 3)) fl ft fg a1 a2 a3 a4 a5 a6 a7 a8 a9 a10 := by
      intro x2 x4 x6 x7 fl ft fg a1 a2 a3 a4 a5 a6 a7 a8 a9 a10 hv
      have t := ih (j + 1) (by omega) x2 x4 x6 x7 fl ft fg a1 a2 a3 a4 a5 a6 a7 a8 a9 a10 hv
      rw [show 3 * (j + 1) = 3 * j + 3 by omega] at t
      exact t
    obtain ⟨B, tl, tk, R, ⟨e2, e4, e6, e7, hp⟩, h⟩ := hV
    subst e2
    subst e4
    subst e6
    subst e7
    obtain ⟨s1, s2, s3, s4, s5⟩ := id h
    obtain ⟨p1, p2, p3, p4⟩ := fw_tl hp s2
    have hB5 := s1.2.1
    obtain ⟨c, hc, ec⟩ := pk_andE (xs (3 * j)) (m := 7) 3 (by decide)
    obtain ⟨u, hu, eu⟩ := pk_andE (xs (3 * j + 1)) (m := 255) 8 (by decide)
    obtain ⟨v, hv, ev⟩ := pk_andE (xs (3 * j + 1) >>> ((8 : Int32) &&& 31)) (m := 255) 8 (by decide)
    obtain ⟨a, ha, ea⟩ := pk_andE (xs (3 * j + 2)) (m := 7) 3 (by decide)
    obtain ⟨b, hb, eb⟩ := pk_andE (xs (3 * j + 2) >>> ((3 : Int32) &&& 31)) (m := 7) 3 (by decide)
    obtain ⟨p, hpp, ep⟩ := pk_andE (xs (3 * j + 2) >>> ((6 : Int32) &&& 31)) (m := 3) 2 (by decide)
    obtain ⟨q, hq, eq⟩ := pk_andE (xs (3 * j + 2) >>> ((8 : Int32) &&& 31)) (m := 3) 2 (by decide)
    have ha8 : a < 8 := ha
    have hb8 : b < 8 := hb
    have hp4 : p < 4 := hpp
    have hq4 : q < 4 := hq
    have hu2 : u < 256 := hu
    have hv2 : v < 256 := hv
    have ru : nI u - nI u / 3 * 3 = nI (u % 3) := pk_rem (a := u) (d := 3) (by omega) (by omega) (by omega)
    have rv : nI v - nI v / 3 * 3 = nI (v % 3) := pk_rem (a := v) (d := 3) (by omega) (by omega) (by omega)
    have i1 : nI (3 * j) + 1 = nI (3 * j + 1) := nI_add _ 1
    have i2 : nI (3 * j) + 2 = nI (3 * j + 2) := nI_add _ 2
    refine pk_lt L (3 * j + 3) (fun z => absurd z (by omega)) (fun _ => pk_le 90 (3 * j) (fun z => absurd z (by omega)) (fun _ => ?_)) rfl (nI_add _ 3)
    rw [i1, i2, nI_clamp (show 3 * j < 2 ^ 31 by omega), nI_clamp (show 3 * j + 1 < 2 ^ 31 by omega), nI_clamp (show 3 * j + 2 < 2 ^ 31 by omega), ec, eu, ev, ea, eb, ep, eq, ru, rv]
    refine ⟨pk_in (3 * j) L (by omega) rfl (by omega), nm_e ⟨pk_in (3 * j + 1) L (by omega) rfl (by omega), by decide, nm_e ⟨pk_in (3 * j + 1) L (by omega) rfl (by omega), by decide, nm_e ⟨pk_in (3 * j + 2) L (by omega) rfl (by omega), nm_e ⟨pk_in (3 * j + 2) L (by omega) rfl (by omega), nm_e ⟨pk_in (3 * j + 2) L (by omega) rfl (by omega), nm_e ⟨pk_in (3 * j + 2) L (by omega) rfl (by omega), nm_e ?_⟩⟩⟩⟩⟩⟩⟩
    rw [show 8 * nI a = nI (8 * a) from pk_mul 8 a, nI_add, fw_tok (u % 3) (by omega) (8 * a + b) (by omega)]
    refine nm_e ?_
    refine fw_find2 p1 p2 (by omega) (fun x17 hf => ?_)
    refine br_c (fun _ => fw_l224 hp h hj1 hL (by omega) (by omega) ha8 hb8 hf HJ) (fun _ => pk_le 5 B.length (fun _ => fw_l224 hp h hj1 hL (by omega) (by omega) ha8 hb8 hf HJ) (fun hlt => ?_))
    refine fw_link h (c := u % 3 + 4 * (v % 3) + 16 * p + 64 * q) hlt (by omega) (by omega) (by omega) (by omega) rfl (fun R' fg' a1' a2' a3' a4' a7' a8' a9' a10' hst => ?_)
    have V : fw_V (lN (fw_pk (B ++ [u % 3 + 4 * (v % 3) + 16 * p + 64 * q]))) (lN (fw_pk tl)) (nI (B.length + 1)) (nI tl.length) (nI (B.length + 1)) ft a1' a2' a3' a4' a5 a6 a7' a8' a10' := ⟨B ++ [u % 3 + 4 * (v % 3) + 16 * p + 64 * q], tl, tk, R', ⟨rfl, rfl, by rw [fw_la], rfl, hp⟩, hst⟩
    refine br_t (nI_1 _).symm (nm_r (fw_push (fun j hj => (s1.2.2.1 j hj).1) (by omega) (by omega) (fw_lin (u % 3) (by omega) (v % 3) (by omega) p hp4 q hq4)) (nm_r (nI_1 _) ?_))
    exact fw_l406 V hj1 hL (by omega) (by omega) ha8 hb8 (HJ _ _ _ _ _ _ _ _ _ _ _ _ _ _ _ _ _ V)
end
section
theorem i_vc (xs : Nat → Int32) (L : Nat) (hL : L ≤ 260) : wpL_law (fun r => r = 1) L xs :=
  ⟨10, 2900, by decide, by decide, fw_init (fun R fg a7 a8 a9 a10 h => ⟨min (L / 3) 30 + 1, fw_l22 hL (min (L / 3) 30) 0 (by omega) 0 0 0 0 0 0 fg _ _ _ _ _ _ a7 a8 a9 a10 ⟨[], [], [], R, ⟨rfl, rfl, rfl, rfl, List.Perm.refl _⟩, h⟩⟩)⟩
end
