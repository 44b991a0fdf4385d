section
/-! the pure picture: a table is a list of records, a record a list of fields, a field a list of characters -/
def cs_b (b : Bool) : Int32 := cond b 1 0
def cs_sep (d : Nat) : Nat := 5 + d % 2
abbrev cs_Rd : Type := Nat × List (List (List Nat)) × List (List Nat) × List Nat × Bool
def cs_tab (x : cs_Rd) : List (List (List Nat)) := if x.1 = 0 then x.2.1 else x.2.1 ++ [x.2.2.1 ++ [x.2.2.2.1]]
def cs_set (s : Nat) (x : cs_Rd) : cs_Rd := (s, x.2)
def cs_take (s : Nat) (x : cs_Rd) (c : Nat) : cs_Rd := (s, x.2.1, x.2.2.1, x.2.2.2.1 ++ [c], x.2.2.2.2 && decide (x.2.2.2.1.length < 6))
def cs_endR (x : cs_Rd) : cs_Rd := (0, x.2.1 ++ [x.2.2.1 ++ [x.2.2.2.1]], x.2.2)
def cs_startF (x : cs_Rd) : cs_Rd := (1, x.2.1, x.2.2.1 ++ [x.2.2.2.1], [], x.2.2.2.2 && decide (x.2.2.1.length + 2 ≤ 5))
def cs_startR (x : cs_Rd) : cs_Rd := (1, x.2.1, [], [], x.2.2.2.2 && decide (x.2.1.length < 6))
def cs_after (d c : Nat) (x : cs_Rd) : cs_Rd :=
  if c = cs_sep d then cs_startF x
  else if c = 9 ∧ ¬ d / 2 % 2 = 0 then cs_endR x
  else if c = 8 ∧ d / 2 % 2 = 0 then cs_set 6 x
  else cs_set 7 x
def cs_stepB (d c : Nat) (x : cs_Rd) : cs_Rd :=
  if x.1 = 3 then (if c = 7 then cs_set 4 x else if c = 10 then cs_set (if d < 4 then 7 else 5) x else cs_take 3 x c)
  else if x.1 = 4 ∧ c = 7 then cs_take (if 4 ≤ d then 7 else 3) x c
  else if x.1 = 5 then cs_take (if c = 7 then 3 else 7) x c
  else if x.1 = 6 then (if c = 9 then cs_endR x else cs_set 7 x)
  else if x.1 = 1 ∧ c = 7 then cs_set 3 x
  else if ¬ x.1 = 4 ∧ c < 7 ∧ ¬ c = cs_sep d then cs_take 2 x c
  else cs_after d c x
def cs_step (d c : Nat) (x : cs_Rd) : cs_Rd := cs_stepB d c (if x.1 = 0 then cs_startR x else x)
def cs_go (d : Nat) : cs_Rd → List Nat → cs_Rd
  | x, [] => x
  | x, c :: r => if x.1 = 7 then x else cs_go d (cs_step d c x) r
def cs_fin (x : cs_Rd) : cs_Rd := if x.1 = 1 ∨ x.1 = 2 ∨ x.1 = 4 then cs_endR x else x
def cs_x0 : cs_Rd := (0, [], [], [], true)
def cs_run (d : Nat) (X : List Nat) : cs_Rd := cs_fin (cs_go d cs_x0 X)
/-! the writer -/
def cs_esc (d c : Nat) : List Nat := if c = 7 then [if d < 4 then 7 else 10, 7] else [c]
def cs_nq (d : Nat) (l : List Nat) : Bool := l.any (fun c => decide (7 ≤ c) || decide (c = cs_sep d))
def cs_q (d : Nat) (so : Bool) (l : List Nat) : Bool := cs_nq d l || (decide (l.length = 0) && so)
def cs_qs (q : Bool) : List Nat := cond q [7] []
def cs_wF (d : Nat) (so : Bool) (l : List Nat) : List Nat := cs_qs (cs_q d so l) ++ (l.flatMap (cs_esc d) ++ cs_qs (cs_q d so l))
def cs_wG (d : Nat) (so : Bool) : Bool → List (List Nat) → List Nat
  | _, [] => []
  | fi, l :: fs => cond fi [] [cs_sep d] ++ (cs_wF d so l ++ cs_wG d so false fs)
def cs_eol (d : Nat) : List Nat := if d / 2 % 2 = 0 then [8, 9] else [9]
def cs_wR (d : Nat) (R : List (List Nat)) : List Nat := cs_wG d (decide (R.length = 1)) true R ++ cs_eol d
def cs_wr (d : Nat) (T : List (List (List Nat))) : List Nat := T.flatMap (cs_wR d)
/-! well-formed -/
def cs_lenR (R : List (List Nat)) : Prop := 1 ≤ R.length ∧ R.length ≤ 5 ∧ ∀ l ∈ R, l.length ≤ 6
def cs_len (T : List (List (List Nat))) : Prop := T.length ≤ 6 ∧ ∀ R ∈ T, cs_lenR R
def cs_chr (T : List (List (List Nat))) : Prop := ∀ R ∈ T, ∀ l ∈ R, ∀ c ∈ l, c ≤ 9
theorem cs_sep_lt (d : Nat) : cs_sep d < 7 := by unfold cs_sep; omega
theorem cs_go1 {d c : Nat} {x : cs_Rd} {r : List Nat} (h : x.1 ≠ 7) : cs_go d x (c :: r) = cs_go d (cs_step d c x) r := by
  show (if x.1 = 7 then x else cs_go d (cs_step d c x) r) = _
  rw [if_neg h]
theorem cs_go7 {d : Nat} {x : cs_Rd} (r : List Nat) (h : x.1 = 7) : cs_go d x r = x := by
  cases r with
  | nil => rfl
  | cons c r =>
    show (if x.1 = 7 then x else cs_go d (cs_step d c x) r) = _
    rw [if_pos h]
theorem cs_goA (d : Nat) (A B : List Nat) : ∀ x : cs_Rd, cs_go d x (A ++ B) = cs_go d (cs_go d x A) B := by
  induction A with
  | nil => intro x; rfl
  | cons c A ih =>
    intro x
    by_cases h : x.1 = 7
    · rw [cs_go7 _ h, cs_go7 _ h, cs_go7 _ h]
    · rw [List.cons_append, cs_go1 h, cs_go1 h, ih]
/-! the round trip -/
section
variable {d : Nat} {t : List (List (List Nat))} {u : List (List Nat)} {l : List Nat}
theorem cs_r_plain {c s : Nat} (hs : s = 1 ∨ s = 2) (hc : c < 7) (hp : ¬ c = cs_sep d) (hl : l.length < 6) : cs_step d c (s, t, u, l, true) = (2, t, u, l ++ [c], true) := by
  have h7 : ¬ c = 7 := by omega
  rcases hs with rfl | rfl <;> simp [cs_step, cs_stepB, cs_take, h7, hc, hp, hl]
theorem cs_r_sep {s : Nat} (hs : s = 1 ∨ s = 2 ∨ s = 4) (hu : u.length + 2 ≤ 5) : cs_step d (cs_sep d) (s, t, u, l, true) = (1, t, u ++ [l], [], true) := by
  have h7 : ¬ cs_sep d = 7 := by have := cs_sep_lt d; omega
  have hu' : u.length ≤ 3 := by omega
  rcases hs with rfl | rfl | rfl <;> simp [cs_step, cs_stepB, cs_after, cs_startF, h7, hu']
theorem cs_r_eol {s : Nat} (hs : s = 1 ∨ s = 2 ∨ s = 4) : cs_go d (s, t, u, l, true) (cs_eol d) = (0, t ++ [u ++ [l]], u, l, true) := by
  have h8 : ¬ 8 = cs_sep d := by have := cs_sep_lt d; omega
  have h9 : ¬ 9 = cs_sep d := by have := cs_sep_lt d; omega
  unfold cs_eol
  by_cases e : d / 2 % 2 = 0
  · rw [if_pos e]
    rcases hs with rfl | rfl | rfl <;> simp [cs_go, cs_step, cs_stepB, cs_after, cs_set, cs_endR, h8, h9, e]
  · rw [if_neg e]
    rcases hs with rfl | rfl | rfl <;> simp [cs_go, cs_step, cs_stepB, cs_after, cs_set, cs_endR, h8, h9, e]
theorem cs_r_q {c : Nat} (hc : c ≤ 9) (hl : l.length < 6) : cs_go d (3, t, u, l, true) (cs_esc d c) = (3, t, u, l ++ [c], true) := by
  unfold cs_esc
  by_cases h7 : c = 7
  · rw [if_pos h7, h7]
    by_cases h4 : d < 4
    · have h4' : ¬ 4 ≤ d := by omega
      simp [cs_go, cs_step, cs_stepB, cs_set, cs_take, h4, h4', hl]
    · have h4' : 4 ≤ d := by omega
      simp [cs_go, cs_step, cs_stepB, cs_set, cs_take, h4, h4', hl]
  · have h10 : ¬ c = 10 := by omega
    rw [if_neg h7]
    simp [cs_go, cs_step, cs_stepB, cs_set, cs_take, h7, h10, hl]
theorem cs_r_qs (m : List Nat) : ∀ l : List Nat, (∀ c ∈ m, c ≤ 9) → l.length + m.length ≤ 6 → cs_go d (3, t, u, l, true) (m.flatMap (cs_esc d)) = (3, t, u, l ++ m, true) := by
  induction m with
  | nil => intro l _ _; simp [cs_go]
  | cons c m ih =>
    intro l hm hl
    rw [List.length_cons] at hl
    rw [List.flatMap_cons, cs_goA, cs_r_q (hm c (List.mem_cons_self ..)) (by omega), ih (l ++ [c]) (fun a ha => hm a (List.mem_cons_of_mem _ ha)) (by rw [List.length_append, List.length_singleton]; omega), List.append_assoc]
    rfl
theorem cs_r_ps (m : List Nat) : ∀ (l : List Nat) (s : Nat), (s = 1 ∨ s = 2) → (∀ c ∈ m, c < 7 ∧ ¬ c = cs_sep d) → l.length + m.length ≤ 6 → ∃ s', (s' = 1 ∨ s' = 2) ∧ cs_go d (s, t, u, l, true) (m.flatMap (cs_esc d)) = (s', t, u, l ++ m, true) := by
  induction m with
  | nil => intro l s hs _ _; exact ⟨s, hs, by simp [cs_go]⟩
  | cons c m ih =>
    intro l s hs hm hl
    rw [List.length_cons] at hl
    have hc := hm c (List.mem_cons_self ..)
    have e : cs_esc d c = [c] := by
      unfold cs_esc
      rw [if_neg (by omega)]
    obtain ⟨s', h1, h2⟩ := ih (l ++ [c]) 2 (Or.inr rfl) (fun a ha => hm a (List.mem_cons_of_mem _ ha)) (by rw [List.length_append, List.length_singleton]; omega)
    refine ⟨s', h1, ?_⟩
    have h7 : ¬ s = 7 := by omega
    rw [List.flatMap_cons, e, List.singleton_append, cs_go1 h7, cs_r_plain hs hc.1 hc.2 (by omega), h2, List.append_assoc]
    rfl
theorem cs_r_F {so : Bool} (m : List Nat) (hm : ∀ c ∈ m, c ≤ 9) (hl : m.length ≤ 6) : ∃ s, (s = 1 ∨ s = 2 ∨ s = 4) ∧ cs_go d (1, t, u, [], true) (cs_wF d so m) = (s, t, u, m, true) := by
  unfold cs_wF
  cases hq : cs_q d so m with
  | true =>
    refine ⟨4, by omega, ?_⟩
    show cs_go d (1, t, u, [], true) ([7] ++ (m.flatMap (cs_esc d) ++ [7])) = _
    have e1 : cs_go d (1, t, u, [], true) [7] = (3, t, u, [], true) := by simp [cs_go, cs_step, cs_stepB, cs_set]
    have e2 : cs_go d (3, t, u, m, true) [7] = (4, t, u, m, true) := by simp [cs_go, cs_step, cs_stepB, cs_set]
    rw [cs_goA, e1, cs_goA, cs_r_qs m [] hm (by simpa using hl), List.nil_append, e2]
  | false =>
    have hn : cs_nq d m = false := by
      unfold cs_q at hq
      exact (Bool.or_eq_false_iff.mp hq).1
    have hp : ∀ c ∈ m, c < 7 ∧ ¬ c = cs_sep d := by
      intro c hc
      have := List.any_eq_false.mp hn c hc
      simp at this
      omega
    obtain ⟨s, h1, h2⟩ := cs_r_ps (t := t) (u := u) m [] 1 (Or.inl rfl) hp (by simpa using hl)
    refine ⟨s, by omega, ?_⟩
    show cs_go d (1, t, u, [], true) ([] ++ (m.flatMap (cs_esc d) ++ [])) = _
    rw [List.nil_append, List.append_nil, h2, List.nil_append]
end
theorem cs_r_G {d : Nat} {so : Bool} {t : List (List (List Nat))} (fs : List (List Nat)) : ∀ (u : List (List Nat)) (l : List Nat) (s : Nat), (s = 1 ∨ s = 2 ∨ s = 4) → (∀ m ∈ fs, m.length ≤ 6 ∧ ∀ c ∈ m, c ≤ 9) → u.length + 1 + fs.length ≤ 5 → ∃ s' u' l', (s' = 1 ∨ s' = 2 ∨ s' = 4) ∧ u' ++ [l'] = u ++ [l] ++ fs ∧ cs_go d (s, t, u, l, true) (cs_wG d so false fs) = (s', t, u', l', true) := by
  induction fs with
  | nil => intro u l s hs _ _; exact ⟨s, u, l, hs, (List.append_nil _).symm, rfl⟩
  | cons m fs ih =>
    intro u l s hs hm hl
    rw [List.length_cons] at hl
    have hm0 := hm m (List.mem_cons_self ..)
    obtain ⟨s1, h1, h2⟩ := cs_r_F (d := d) (t := t) (u := u ++ [l]) (so := so) m hm0.2 hm0.1
    obtain ⟨s2, u2, l2, g1, g2, g3⟩ := ih (u ++ [l]) m s1 h1 (fun a ha => hm a (List.mem_cons_of_mem _ ha)) (by rw [List.length_append, List.length_singleton]; omega)
    refine ⟨s2, u2, l2, g1, by rw [g2, List.append_assoc (u ++ [l])]; rfl, ?_⟩
    show cs_go d (s, t, u, l, true) (cs_sep d :: (cs_wF d so m ++ cs_wG d so false fs)) = _
    have h7 : ¬ s = 7 := by omega
    rw [cs_go1 h7, cs_r_sep hs (by omega), cs_goA, h2, g3]
theorem cs_r_fresh {d : Nat} {t : List (List (List Nat))} {u : List (List Nat)} {l : List Nat} (ht : t.length < 6) (X : List Nat) (hX : X ≠ []) : cs_go d (0, t, u, l, true) X = cs_go d (1, t, [], [], true) X := by
  cases X with
  | nil => exact absurd rfl hX
  | cons c r =>
    rw [cs_go1 (by show ¬ 0 = 7; omega), cs_go1 (by show ¬ 1 = 7; omega)]
    have e : cs_step d c (0, t, u, l, true) = cs_step d c (1, t, [], [], true) := by
      simp [cs_step, cs_startR, ht]
    rw [e]
theorem cs_eol_ne (d : Nat) : cs_eol d ≠ [] := by
  unfold cs_eol
  split <;> simp
theorem cs_r_R {d : Nat} {t : List (List (List Nat))} {u : List (List Nat)} {l : List Nat} (ht : t.length < 6) (R : List (List Nat)) (hR : cs_lenR R) (hc : ∀ m ∈ R, ∀ c ∈ m, c ≤ 9) : ∃ u' l', cs_go d (0, t, u, l, true) (cs_wR d R) = (0, t ++ [R], u', l', true) := by
  have hne : cs_wR d R ≠ [] := by
    unfold cs_wR
    intro h
    exact cs_eol_ne d (List.append_eq_nil_iff.mp h).2
  rw [cs_r_fresh ht _ hne]
  cases R with
  | nil => exact absurd hR.1 (by simp)
  | cons m fs =>
    have hm : ∀ a ∈ m :: fs, a.length ≤ 6 ∧ ∀ c ∈ a, c ≤ 9 := fun a ha => ⟨hR.2.2 a ha, hc a ha⟩
    have h5 := hR.2.1
    rw [List.length_cons] at h5
    have hm0 := hm m (List.mem_cons_self ..)
    obtain ⟨s1, h1, h2⟩ := cs_r_F (d := d) (t := t) (u := []) (so := decide ((m :: fs).length = 1)) m hm0.2 hm0.1
    obtain ⟨s2, u2, l2, g1, g2, g3⟩ := cs_r_G (d := d) (so := decide ((m :: fs).length = 1)) (t := t) fs [] m s1 h1 (fun a ha => hm a (List.mem_cons_of_mem _ ha)) (by rw [List.length_nil]; omega)
    refine ⟨u2, l2, ?_⟩
    show cs_go d (1, t, [], [], true) (([] ++ (cs_wF d (decide ((m :: fs).length = 1)) m ++ cs_wG d (decide ((m :: fs).length = 1)) false fs)) ++ cs_eol d) = _
    rw [List.nil_append, cs_goA, cs_goA, h2, g3, cs_r_eol g1, g2]
    rfl
theorem cs_r_T {d : Nat} (T : List (List (List Nat))) : ∀ (t : List (List (List Nat))) (u : List (List Nat)) (l : List Nat), t.length + T.length ≤ 6 → (∀ R ∈ T, cs_lenR R) → cs_chr T → ∃ u' l', cs_go d (0, t, u, l, true) (cs_wr d T) = (0, t ++ T, u', l', true) := by
  induction T with
  | nil => intro t u l _ _ _; exact ⟨u, l, by rw [List.append_nil]; rfl⟩
  | cons R T ih =>
    intro t u l hl h1 h2
    rw [List.length_cons] at hl
    obtain ⟨u1, l1, e1⟩ := cs_r_R (d := d) (t := t) (u := u) (l := l) (by omega) R (h1 R (List.mem_cons_self ..)) (h2 R (List.mem_cons_self ..))
    obtain ⟨u2, l2, e2⟩ := ih (t ++ [R]) u1 l1 (by rw [List.length_append, List.length_singleton]; omega) (fun a ha => h1 a (List.mem_cons_of_mem _ ha)) (fun a ha => h2 a (List.mem_cons_of_mem _ ha))
    refine ⟨u2, l2, ?_⟩
    unfold cs_wr at e2 ⊢
    rw [List.flatMap_cons, cs_goA, e1, e2, List.append_assoc]
    rfl
theorem cs_round {d : Nat} {T : List (List (List Nat))} (h : cs_len T) (hc : cs_chr T) : ∃ u l, cs_run d (cs_wr d T) = (0, T, u, l, true) := by
  obtain ⟨u, l, e⟩ := cs_r_T (d := d) T [] [] [] (by rw [List.length_nil]; have := h.1; omega) h.2 hc
  refine ⟨u, l, ?_⟩
  unfold cs_run cs_x0
  rw [e]
  unfold cs_fin
  rw [if_neg (by show ¬ (0 = 1 ∨ 0 = 2 ∨ 0 = 4); omega)]
  rfl
end
section
/-! what the reader keeps -/
section
variable {t : List (List (List Nat))} {u : List (List Nat)} {l : List Nat}
theorem cs_len_iff : cs_len (t ++ [u ++ [l]]) ↔ (t.length ≤ 5 ∧ (∀ R ∈ t, cs_lenR R)) ∧ u.length ≤ 4 ∧ (∀ m ∈ u, m.length ≤ 6) ∧ l.length ≤ 6 := by
  unfold cs_len
  constructor
  · rintro ⟨h1, h2⟩
    rw [List.length_append, List.length_singleton] at h1
    obtain ⟨_, h5, h6⟩ := h2 (u ++ [l]) (List.mem_append_right _ (List.mem_singleton.mpr rfl))
    rw [List.length_append, List.length_singleton] at h5
    exact ⟨⟨by omega, fun R hR => h2 R (List.mem_append_left _ hR)⟩, by omega, fun m hm => h6 m (List.mem_append_left _ hm), h6 l (List.mem_append_right _ (List.mem_singleton.mpr rfl))⟩
  · rintro ⟨⟨h1, h2⟩, h3, h4, h5⟩
    refine ⟨by rw [List.length_append, List.length_singleton]; omega, fun R hR => ?_⟩
    rcases List.mem_append.mp hR with h | h
    · exact h2 R h
    · rw [List.mem_singleton] at h
      subst h
      refine ⟨by rw [List.length_append, List.length_singleton]; omega, by rw [List.length_append, List.length_singleton]; omega, fun m hm => ?_⟩
      rcases List.mem_append.mp hm with g | g
      · exact h4 m g
      · rw [List.mem_singleton] at g
        subst g
        exact h5
theorem cs_chr_iff : cs_chr (t ++ [u ++ [l]]) ↔ cs_chr t ∧ (∀ m ∈ u, ∀ c ∈ m, c ≤ 9) ∧ ∀ c ∈ l, c ≤ 9 := by
  unfold cs_chr
  constructor
  · intro h
    have h2 := h (u ++ [l]) (List.mem_append_right _ (List.mem_singleton.mpr rfl))
    exact ⟨fun R hR => h R (List.mem_append_left _ hR), fun m hm => h2 m (List.mem_append_left _ hm), h2 l (List.mem_append_right _ (List.mem_singleton.mpr rfl))⟩
  · rintro ⟨h1, h2, h3⟩ R hR
    rcases List.mem_append.mp hR with h | h
    · exact h1 R h
    · rw [List.mem_singleton] at h
      subst h
      intro m hm
      rcases List.mem_append.mp hm with g | g
      · exact h2 m g
      · rw [List.mem_singleton] at g
        subst g
        exact h3
theorem cs_app {P : Nat → Prop} {c : Nat} (h : ∀ a ∈ l, P a) (hc : P c) : ∀ a ∈ l ++ [c], P a := by
  intro a ha
  rcases List.mem_append.mp ha with g | g
  · exact h a g
  · rw [List.mem_singleton] at g
    subst g
    exact hc
end
def cs_ok (n : Nat) (x : cs_Rd) : Prop := x.1 ≤ 7 ∧ x.2.1.length ≤ n ∧ x.2.2.1.length ≤ n ∧ x.2.2.2.1.length ≤ n ∧ (x.2.2.2.2 = true → cs_len (cs_tab x)) ∧ (¬ x.1 = 7 → cs_chr (cs_tab x))
section
variable {n s c d : Nat} {x : cs_Rd}
theorem cs_tab_n (h : ¬ x.1 = 0) : cs_tab x = x.2.1 ++ [x.2.2.1 ++ [x.2.2.2.1]] := if_neg h
theorem cs_tab_0 (h : x.1 = 0) : cs_tab x = x.2.1 := if_pos h
theorem cs_tab_take (h : ¬ s = 0) : cs_tab (cs_take s x c) = x.2.1 ++ [x.2.2.1 ++ [x.2.2.2.1 ++ [c]]] := if_neg h
theorem cs_tab_set (h : ¬ s = 0) : cs_tab (cs_set s x) = x.2.1 ++ [x.2.2.1 ++ [x.2.2.2.1]] := if_neg h
theorem cs_tab_endR : cs_tab (cs_endR x) = x.2.1 ++ [x.2.2.1 ++ [x.2.2.2.1]] := rfl
theorem cs_tab_startF : cs_tab (cs_startF x) = x.2.1 ++ [(x.2.2.1 ++ [x.2.2.2.1]) ++ [[]]] := rfl
theorem cs_tab_startR : cs_tab (cs_startR x) = x.2.1 ++ [[] ++ [[]]] := rfl
theorem cs_ok_take (h : cs_ok n x) (h0 : ¬ x.1 = 0) (h7 : ¬ x.1 = 7) (s0 : ¬ s = 0) (s7 : s ≤ 7) (hc : s = 7 ∨ c ≤ 9) : cs_ok (n + 1) (cs_take s x c) := by
  obtain ⟨_, h1, h2, h3, h4, h5⟩ := h
  rw [cs_tab_n h0] at h4 h5
  refine ⟨s7, Nat.le_succ_of_le h1, Nat.le_succ_of_le h2, ?_, fun e => ?_, fun e => ?_⟩
  · show (x.2.2.2.1 ++ [c]).length ≤ n + 1
    rw [List.length_append, List.length_singleton]
    omega
  · rw [cs_tab_take s0]
    have e' : (x.2.2.2.2 && decide (x.2.2.2.1.length < 6)) = true := e
    rw [Bool.and_eq_true, decide_eq_true_eq] at e'
    have g := cs_len_iff.mp (h4 e'.1)
    exact cs_len_iff.mpr ⟨g.1, g.2.1, g.2.2.1, by rw [List.length_append, List.length_singleton]; omega⟩
  · rw [cs_tab_take s0]
    have e' : ¬ s = 7 := e
    have g := cs_chr_iff.mp (h5 h7)
    exact cs_chr_iff.mpr ⟨g.1, g.2.1, cs_app g.2.2 (by omega)⟩
theorem cs_ok_set (h : cs_ok n x) (h0 : ¬ x.1 = 0) (h7 : ¬ x.1 = 7) (s0 : ¬ s = 0) (s7 : s ≤ 7) : cs_ok (n + 1) (cs_set s x) := by
  obtain ⟨_, h1, h2, h3, h4, h5⟩ := h
  rw [cs_tab_n h0] at h4 h5
  refine ⟨s7, Nat.le_succ_of_le h1, Nat.le_succ_of_le h2, Nat.le_succ_of_le h3, fun e => ?_, fun e => ?_⟩
  · rw [cs_tab_set s0]
    exact h4 e
  · rw [cs_tab_set s0]
    exact h5 h7
theorem cs_ok_endR (h : cs_ok n x) (h0 : ¬ x.1 = 0) (h7 : ¬ x.1 = 7) : cs_ok (n + 1) (cs_endR x) := by
  obtain ⟨_, h1, h2, h3, h4, h5⟩ := h
  rw [cs_tab_n h0] at h4 h5
  refine ⟨Nat.zero_le _, ?_, Nat.le_succ_of_le h2, Nat.le_succ_of_le h3, fun e => h4 e, fun e => h5 h7⟩
  show (x.2.1 ++ [x.2.2.1 ++ [x.2.2.2.1]]).length ≤ n + 1
  rw [List.length_append, List.length_singleton]
  omega
theorem cs_ok_startF (h : cs_ok n x) (h0 : ¬ x.1 = 0) (h7 : ¬ x.1 = 7) : cs_ok (n + 1) (cs_startF x) := by
  obtain ⟨_, h1, h2, h3, h4, h5⟩ := h
  rw [cs_tab_n h0] at h4 h5
  refine ⟨by show 1 ≤ 7; omega, Nat.le_succ_of_le h1, ?_, Nat.zero_le _, fun e => ?_, fun e => ?_⟩
  · show (x.2.2.1 ++ [x.2.2.2.1]).length ≤ n + 1
    rw [List.length_append, List.length_singleton]
    omega
  · rw [cs_tab_startF]
    have e' : (x.2.2.2.2 && decide (x.2.2.1.length + 2 ≤ 5)) = true := e
    rw [Bool.and_eq_true, decide_eq_true_eq] at e'
    have g := cs_len_iff.mp (h4 e'.1)
    refine cs_len_iff.mpr ⟨g.1, by rw [List.length_append, List.length_singleton]; omega, fun m hm => ?_, Nat.zero_le _⟩
    rcases List.mem_append.mp hm with q | q
    · exact g.2.2.1 m q
    · rw [List.mem_singleton] at q
      rw [q]
      exact g.2.2.2
  · rw [cs_tab_startF]
    have g := cs_chr_iff.mp (h5 h7)
    refine cs_chr_iff.mpr ⟨g.1, fun m hm => ?_, fun c hc => absurd hc List.not_mem_nil⟩
    rcases List.mem_append.mp hm with q | q
    · exact g.2.1 m q
    · rw [List.mem_singleton] at q
      rw [q]
      exact g.2.2
theorem cs_ok_startR (h : cs_ok n x) (h0 : x.1 = 0) : cs_ok n (cs_startR x) := by
  obtain ⟨_, h1, h2, h3, h4, h5⟩ := h
  rw [cs_tab_0 h0] at h4 h5
  refine ⟨by show 1 ≤ 7; omega, h1, Nat.zero_le _, Nat.zero_le _, fun e => ?_, fun e => ?_⟩
  · rw [cs_tab_startR]
    have e' : (x.2.2.2.2 && decide (x.2.1.length < 6)) = true := e
    rw [Bool.and_eq_true, decide_eq_true_eq] at e'
    have g := h4 e'.1
    exact cs_len_iff.mpr ⟨⟨by omega, g.2⟩, Nat.zero_le _, fun m hm => absurd hm List.not_mem_nil, Nat.zero_le _⟩
  · rw [cs_tab_startR]
    exact cs_chr_iff.mpr ⟨h5 (by omega), fun m hm => absurd hm List.not_mem_nil, fun c hc => absurd hc List.not_mem_nil⟩
theorem cs_ok_after (h : cs_ok n x) (h0 : ¬ x.1 = 0) (h7 : ¬ x.1 = 7) : cs_ok (n + 1) (cs_after d c x) := by
  unfold cs_after
  split
  · exact cs_ok_startF h h0 h7
  · split
    · exact cs_ok_endR h h0 h7
    · split
      · exact cs_ok_set h h0 h7 (by omega) (by omega)
      · exact cs_ok_set h h0 h7 (by omega) (by omega)
theorem cs_ok_B (h : cs_ok n x) (h0 : ¬ x.1 = 0) (h7 : ¬ x.1 = 7) (hc : c ≤ 10) : cs_ok (n + 1) (cs_stepB d c x) := by
  unfold cs_stepB
  split
  · split
    · exact cs_ok_set h h0 h7 (by omega) (by omega)
    · split
      · exact cs_ok_set h h0 h7 (by split <;> omega) (by split <;> omega)
      · exact cs_ok_take h h0 h7 (by omega) (by omega) (by omega)
  · split
    · exact cs_ok_take h h0 h7 (by split <;> omega) (by split <;> omega) (by omega)
    · split
      · exact cs_ok_take h h0 h7 (by split <;> omega) (by split <;> omega) (by split <;> omega)
      · split
        · split
          · exact cs_ok_endR h h0 h7
          · exact cs_ok_set h h0 h7 (by omega) (by omega)
        · split
          · exact cs_ok_set h h0 h7 (by omega) (by omega)
          · split
            · exact cs_ok_take h h0 h7 (by omega) (by omega) (by omega)
            · exact cs_ok_after h h0 h7
theorem cs_ok_step (h : cs_ok n x) (h7 : ¬ x.1 = 7) (hc : c ≤ 10) : cs_ok (n + 1) (cs_step d c x) := by
  unfold cs_step
  by_cases e : x.1 = 0
  · rw [if_pos e]
    exact cs_ok_B (cs_ok_startR h e) (by show ¬ 1 = 0; omega) (by show ¬ 1 = 7; omega) hc
  · rw [if_neg e]
    exact cs_ok_B h e h7 hc
theorem cs_ok_fin (h : cs_ok n x) : cs_ok (n + 1) (cs_fin x) := by
  unfold cs_fin
  split
  · exact cs_ok_endR h (by omega) (by omega)
  · obtain ⟨h0, h1, h2, h3, h4, h5⟩ := h
    exact ⟨h0, Nat.le_succ_of_le h1, Nat.le_succ_of_le h2, Nat.le_succ_of_le h3, h4, h5⟩
theorem cs_ok_x0 : cs_ok 0 cs_x0 := ⟨Nat.zero_le _, Nat.zero_le _, Nat.zero_le _, Nat.zero_le _, fun _ => ⟨Nat.zero_le _, fun R hR => absurd hR List.not_mem_nil⟩, fun _ R hR => absurd hR List.not_mem_nil⟩
end
theorem cs_ok_go {d : Nat} (X : List Nat) : ∀ (n : Nat) (x : cs_Rd), cs_ok n x → (∀ c ∈ X, c ≤ 10) → cs_ok (n + X.length) (cs_go d x X) := by
  induction X with
  | nil => intro n x h _; exact h
  | cons c X ih =>
    intro n x h hc
    by_cases e : x.1 = 7
    · rw [cs_go7 _ e]
      obtain ⟨h0, h1, h2, h3, h4, h5⟩ := h
      exact ⟨h0, by omega, by omega, by omega, h4, h5⟩
    · rw [cs_go1 e]
      have := ih (n + 1) _ (cs_ok_step (d := d) h e (hc c (List.mem_cons_self ..))) (fun a ha => hc a (List.mem_cons_of_mem _ ha))
      rw [List.length_cons, show n + (X.length + 1) = n + 1 + X.length by omega]
      exact this
theorem cs_ok_run {d : Nat} {X : List Nat} (hc : ∀ c ∈ X, c ≤ 10) : cs_ok (0 + X.length + 1) (cs_run d X) := cs_ok_fin (cs_ok_go X 0 cs_x0 cs_ok_x0 hc)
/-! the text that is written holds no character above 10 -/
theorem cs_wr_le {d : Nat} {T : List (List (List Nat))} (h : cs_chr T) : ∀ c ∈ cs_wr d T, c ≤ 10 := by
  have hs := cs_sep_lt d
  have hF : ∀ (so : Bool) (l : List Nat), (∀ c ∈ l, c ≤ 9) → ∀ c ∈ cs_wF d so l, c ≤ 10 := by
    intro so l hl c hc
    unfold cs_wF at hc
    have hq : ∀ q : Bool, ∀ c ∈ cs_qs q, c ≤ 10 := by
      intro q c hc
      cases q
      · exact absurd hc List.not_mem_nil
      · have : c = 7 := List.mem_singleton.mp hc
        omega
    rcases List.mem_append.mp hc with g | g
    · exact hq _ c g
    · rcases List.mem_append.mp g with g | g
      · obtain ⟨a, ha, hb⟩ := List.mem_flatMap.mp g
        have := hl a ha
        unfold cs_esc at hb
        split at hb
        · split at hb <;> simp at hb <;> omega
        · rw [List.mem_singleton] at hb
          omega
      · exact hq _ c g
  have hG : ∀ (so : Bool) (fs : List (List Nat)) (fi : Bool), (∀ l ∈ fs, ∀ c ∈ l, c ≤ 9) → ∀ c ∈ cs_wG d so fi fs, c ≤ 10 := by
    intro so fs
    induction fs with
    | nil => intro fi _ c hc; exact absurd hc List.not_mem_nil
    | cons l fs ih =>
      intro fi hl c hc
      have hc' : c ∈ cond fi [] [cs_sep d] ++ (cs_wF d so l ++ cs_wG d so false fs) := hc
      rcases List.mem_append.mp hc' with g | g
      · cases fi
        · have : c = cs_sep d := List.mem_singleton.mp g
          omega
        · exact absurd g List.not_mem_nil
      · rcases List.mem_append.mp g with g | g
        · exact hF so l (hl l (List.mem_cons_self ..)) c g
        · exact ih false (fun a ha => hl a (List.mem_cons_of_mem _ ha)) c g
  intro c hc
  obtain ⟨R, hR, hcR⟩ := List.mem_flatMap.mp hc
  unfold cs_wR at hcR
  rcases List.mem_append.mp hcR with g | g
  · exact hG _ R true (h R hR) c g
  · unfold cs_eol at g
    split at g <;> simp at g <;> omega
/-! the arrays hold the table -/
def cs_lst (X : List Nat) (a : Nat → Int32) : Prop := ∀ (i c : Nat), X[i]? = some c → a i = nI c
def cs_rep (T : List (List (List Nat))) (a1 a2 a3 : Nat → Int32) : Prop :=
  ∀ (r : Nat) (R : List (List Nat)), T[r]? = some R → a1 r = nI R.length ∧ ∀ (f : Nat) (l : List Nat), R[f]? = some l → a2 (r * 5 + f) = nI l.length ∧ ∀ (i c : Nat), l[i]? = some c → a3 ((r * 5 + f) * 6 + i) = nI c
theorem cs_gl {α : Type} {t : List α} {a b : α} {r : Nat} (h : (t ++ [a])[r]? = some b) : (r < t.length ∧ t[r]? = some b) ∨ (r = t.length ∧ b = a) := by
  rcases Nat.lt_or_ge r t.length with h1 | h1
  · rw [List.getElem?_append_left h1] at h
    exact Or.inl ⟨h1, h⟩
  · rw [List.getElem?_append_right h1] at h
    cases e : r - t.length with
    | zero =>
      rw [e] at h
      have h' : some a = some b := h
      exact Or.inr ⟨by omega, (Option.some.inj h').symm⟩
    | succ k =>
      rw [e] at h
      have h' : none = some b := h
      exact absurd h'.symm (Option.some_ne_none b)
theorem cs_gr {α : Type} (t : List α) (a : α) : (t ++ [a])[t.length]? = some a := by
  rw [List.getElem?_append_right (Nat.le_refl _), Nat.sub_self]
  rfl
theorem cs_lt {α : Type} {t : List α} {b : α} {r : Nat} (h : t[r]? = some b) : r < t.length := (List.getElem?_eq_some_iff.mp h).1
theorem cs_gk {α : Type} {t x : List α} {b : α} {r : Nat} (h : t[r]? = some b) : (t ++ x)[r]? = some b := by
  rw [List.getElem?_append_left (cs_lt h)]
  exact h
theorem cs_gm {α : Type} {t : List α} {b : α} {r : Nat} (h : t[r]? = some b) : b ∈ t := List.mem_of_getElem? h
theorem cs_rep_put {T T' : List (List (List Nat))} {a1 a2 a3 b1 b2 b3 : Nat → Int32} {r0 f0 : Nat} {R' : List (List Nat)} {l' : List Nat}
    (hr : cs_rep T a1 a2 a3) (h5 : cs_len T') (hR : T'[r0]? = some R') (hl : R'[f0]? = some l')
    (ho : ∀ (r : Nat) (R : List (List Nat)), r ≠ r0 → T'[r]? = some R → T[r]? = some R)
    (hf : ∀ (f : Nat) (l : List Nat), f ≠ f0 → R'[f]? = some l → ∃ R, T[r0]? = some R ∧ R[f]? = some l)
    (e1 : b1 r0 = nI R'.length) (e1' : ∀ r, r ≠ r0 → b1 r = a1 r)
    (e2 : b2 (r0 * 5 + f0) = nI l'.length) (e2' : ∀ k, k ≠ r0 * 5 + f0 → b2 k = a2 k)
    (e3 : ∀ (i c : Nat), l'[i]? = some c → b3 ((r0 * 5 + f0) * 6 + i) = nI c) (e3' : ∀ k i, k ≠ r0 * 5 + f0 → i < 6 → b3 (k * 6 + i) = a3 (k * 6 + i)) : cs_rep T' b1 b2 b3 := by
  have g0 : f0 < 5 := by
    have h1 := cs_lt hl
    have h2 := (h5.2 R' (cs_gm hR)).2.1
    omega
  intro r R h
  have hb := h5.2 R (cs_gm h)
  by_cases er : r = r0
  · subst er
    rw [hR] at h
    have h' : R' = R := Option.some.inj h
    subst h'
    refine ⟨e1, fun f l hfl => ?_⟩
    by_cases ef : f = f0
    · subst ef
      rw [hl] at hfl
      have hl' : l' = l := Option.some.inj hfl
      subst hl'
      exact ⟨e2, e3⟩
    · obtain ⟨R0, h0, h0'⟩ := hf f l ef hfl
      have g := (hr r R0 h0).2 f l h0'
      have hk : r * 5 + f ≠ r * 5 + f0 := by omega
      refine ⟨by rw [e2' _ hk]; exact g.1, fun i c hi => ?_⟩
      have h6 := hb.2.2 l (cs_gm hfl)
      have hi' := cs_lt hi
      rw [e3' _ _ hk (by omega)]
      exact g.2 i c hi
  · have g := hr r R (ho r R er h)
    refine ⟨by rw [e1' r er]; exact g.1, fun f l hfl => ?_⟩
    have g2 := g.2 f l hfl
    have hf5 := cs_lt hfl
    have hb1 := hb.2.1
    have hk : r * 5 + f ≠ r0 * 5 + f0 := by omega
    refine ⟨by rw [e2' _ hk]; exact g2.1, fun i c hi => ?_⟩
    have h6 := hb.2.2 l (cs_gm hfl)
    have hi' := cs_lt hi
    rw [e3' _ _ hk (by omega)]
    exact g2.2 i c hi
/-- a field at the end: T holds all ahead of it -/
theorem cs_rep_last {T t : List (List (List Nat))} {u : List (List Nat)} {l' : List Nat} {a1 a2 a3 b1 b2 b3 : Nat → Int32}
    (hr : cs_rep T a1 a2 a3) (h5 : cs_len (t ++ [u ++ [l']]))
    (ho : ∀ (r : Nat) (R : List (List Nat)), t[r]? = some R → T[r]? = some R)
    (hf : ∀ (f : Nat) (l : List Nat), u[f]? = some l → ∃ R, T[t.length]? = some R ∧ R[f]? = some l)
    (e1 : b1 t.length = nI (u.length + 1)) (e1' : ∀ r, r ≠ t.length → b1 r = a1 r)
    (e2 : b2 (t.length * 5 + u.length) = nI l'.length) (e2' : ∀ k, k ≠ t.length * 5 + u.length → b2 k = a2 k)
    (e3 : ∀ (i c : Nat), l'[i]? = some c → b3 ((t.length * 5 + u.length) * 6 + i) = nI c) (e3' : ∀ k i, k ≠ t.length * 5 + u.length → i < 6 → b3 (k * 6 + i) = a3 (k * 6 + i)) : cs_rep (t ++ [u ++ [l']]) b1 b2 b3 := by
  refine cs_rep_put hr h5 (cs_gr t _) (cs_gr u l') (fun r R hne h => ?_) (fun f l hne h => ?_) (by rw [List.length_append, List.length_singleton]; exact e1) e1' e2 e2' e3 e3'
  · rcases cs_gl h with ⟨_, g⟩ | ⟨g, _⟩
    · exact ho r R g
    · exact absurd g hne
  · rcases cs_gl h with ⟨_, g⟩ | ⟨g, _⟩
    · exact hf f l g
    · exact absurd g hne
theorem cs_rep_take {t : List (List (List Nat))} {u : List (List Nat)} {l : List Nat} {c : Nat} {a1 a2 a3 : Nat → Int32}
    (hr : cs_rep (t ++ [u ++ [l]]) a1 a2 a3) (h5 : cs_len (t ++ [u ++ [l ++ [c]]])) :
    cs_rep (t ++ [u ++ [l ++ [c]]]) a1 (upd a2 (t.length * 5 + u.length) (nI (l.length + 1))) (upd a3 ((t.length * 5 + u.length) * 6 + l.length) (nI c)) := by
  have h1 := hr t.length _ (cs_gr t (u ++ [l]))
  have h2 := h1.2 u.length l (cs_gr u l)
  have h3 := cs_len_iff.mp h5
  have h6 := h3.2.2.2
  rw [List.length_append, List.length_singleton] at h6
  refine cs_rep_last hr h5 (fun r R h => cs_gk h) (fun f m h => ⟨_, cs_gr t _, cs_gk h⟩) ?_ (fun r _ => rfl) ?_ (fun k hk => pk_un hk) (fun i a h => ?_) (fun k i hk hi => pk_un (by omega))
  · have := h1.1
    rw [List.length_append, List.length_singleton] at this
    exact this
  · rw [pk_us, List.length_append, List.length_singleton]
  · rcases cs_gl h with ⟨g, g'⟩ | ⟨g, g'⟩
    · rw [pk_un (by omega)]
      exact h2.2 i a g'
    · rw [g, g', pk_us]
/-- a field begins: the record's finished fields are u; T is t and u, or t alone if u is empty -/
theorem cs_rep_start {T t : List (List (List Nat))} {u : List (List Nat)} {a1 a2 a3 : Nat → Int32}
    (hr : cs_rep T a1 a2 a3) (hT : T = t ++ [u] ∨ (T = t ∧ u = [])) (h5 : cs_len (t ++ [u ++ [[]]])) :
    cs_rep (t ++ [u ++ [[]]]) (upd a1 t.length (nI (u.length + 1))) (upd a2 (t.length * 5 + u.length) 0) a3 := by
  refine cs_rep_last hr h5 (fun r R h => ?_) (fun f m h => ?_) pk_us (fun r hr => pk_un hr) (by rw [pk_us]; rfl) (fun k hk => pk_un hk) (fun i a h => ?_) (fun k i hk hi => rfl)
  · rcases hT with e | ⟨e, _⟩
    · rw [e]
      exact cs_gk h
    · rw [e]
      exact h
  · rcases hT with e | ⟨_, e⟩
    · rw [e]
      exact ⟨u, cs_gr t u, h⟩
    · rw [e] at h
      exact absurd h.symm (Option.some_ne_none m)
  · exact absurd (show none = some a from h).symm (Option.some_ne_none a)
end
section
/-! numbers -/
theorem cs_e1 (r f : Nat) : nI r * 5 + nI (f + 1) - 1 = nI (r * 5 + f) := by
  show nI r * nI 5 + nI (f + 1) - nI 1 = _
  rw [pk_mul, nI_add, pk_sub (by omega), show r * 5 + (f + 1) - 1 = r * 5 + f by omega]
theorem cs_e2 (k i : Nat) : nI k * 6 + nI (i + 1) - 1 = nI (k * 6 + i) := by
  show nI k * nI 6 + nI (i + 1) - nI 1 = _
  rw [pk_mul, nI_add, pk_sub (by omega), show k * 6 + (i + 1) - 1 = k * 6 + i by omega]
theorem cs_e3 (r f : Nat) : nI r * 5 + nI f = nI (r * 5 + f) := by
  show nI r * nI 5 + nI f = _
  rw [pk_mul, nI_add]
theorem cs_e4 (k i : Nat) : nI k * 6 + nI i = nI (k * 6 + i) := by
  show nI k * nI 6 + nI i = _
  rw [pk_mul, nI_add]
theorem cs_cl {f : Nat → Int32} {i v : Int32} {k : Nat} (h : i = nI k) (hk : k < 2 ^ 31) : upd f i.toNatClampNeg v = upd f k v := by rw [h, nI_clamp hk]
theorem cs_cg {f : Nat → Int32} {i : Int32} {k : Nat} (h : i = nI k) (hk : k < 2 ^ 31) : f i.toNatClampNeg = f k := by rw [h, nI_clamp hk]
theorem cs_esep : ∀ d, d < 8 → 5 + (nI d &&& 1) = nI (cs_sep d) := by decide +kernel
theorem cs_e2d : ∀ d, d < 8 → (nI d &&& 2 = 0 ↔ d / 2 % 2 = 0) := by decide +kernel
/-! the reader's walk -/
def cs_A (fb h : Bool) (T : List (List (List Nat))) (b1 b2 b3 a1 a2 a3 : Nat → Int32) : Prop := (fb = false → a1 = b1 ∧ a2 = b2 ∧ a3 = b3) ∧ (fb = true → h = true → cs_rep T a1 a2 a3)
def cs_P (fb : Bool) (x : cs_Rd) (b1 b2 b3 : Nat → Int32) (gf gz : Int32) (a1 a2 a3 : Nat → Int32) : Prop := (¬ x.1 = 0 → gf = nI (x.2.2.1.length + 1) ∧ gz = nI x.2.2.2.1.length) ∧ cs_A fb x.2.2.2.2 (cs_tab x) b1 b2 b3 a1 a2 a3
def cs_K (post : St1 → Prop) (cn dr ra pt kp sd : Int32) (a4 a5 : Nat → Int32) (fb : Bool) (b1 b2 b3 : Nat → Int32) (x : cs_Rd) : Prop :=
  ∀ (gf gz ff rg : Int32) (a1 a2 a3 : Nat → Int32), cs_P fb x b1 b2 b3 gf gz a1 a2 a3 → post (cn, dr, ra, pt, kp, nI x.1, nI x.2.1.length, gf, gz, ff, rg, cs_b x.2.2.2.2, cs_b fb, sd, a1, a2, a3, a4, a5)
section
variable {cn dr ra pt kp st gr gf gz ff rg hl fl sd : Int32} {a1 a2 a3 a4 a5 : Nat → Int32} {post : St1 → Prop} {b1 b2 b3 : Nat → Int32} {fb : Bool} {x : cs_Rd} {n c d s : Nat}
theorem cs_wtake (ok : cs_ok n x) (hn : n ≤ 900) (x0 : ¬ x.1 = 0) (s0 : ¬ s = 0) (hA : cs_A fb x.2.2.2.2 (cs_tab x) b1 b2 b3 a1 a2 a3)
    (H : cs_K post cn dr ra pt kp sd a4 a5 fb b1 b2 b3 (cs_take s x c)) :
    wpX_take post (cn, dr, ra, pt, kp, nI s, nI x.2.1.length, nI (x.2.2.1.length + 1), nI x.2.2.2.1.length, ff, rg, cs_b x.2.2.2.2, cs_b fb, sd, a1, a2, a3, a4, a5) (nI c) := by
  obtain ⟨_, o1, o2, o3, hk, _⟩ := ok
  rw [cs_tab_n x0] at hA hk
  obtain ⟨k, t, u, l, h⟩ := x
  dsimp only at *
  have H' : ∀ a2' a3', cs_A fb (h && decide (l.length < 6)) (t ++ [u ++ [l ++ [c]]]) b1 b2 b3 a1 a2' a3' → post (cn, dr, ra, pt, kp, nI s, nI t.length, nI (u.length + 1), nI (l.length + 1), ff, rg, cs_b (h && decide (l.length < 6)), cs_b fb, sd, a1, a2', a3', a4, a5) := by
    intro a2' a3' q
    refine H _ _ _ _ _ _ _ ⟨fun _ => ⟨rfl, ?_⟩, ?_⟩
    · show nI (l.length + 1) = nI (l ++ [c]).length
      rw [List.length_append, List.length_singleton]
    · rw [cs_tab_take s0]
      exact q
  refine nm_r (nI_1 _) (pk_le (l.length + 1) 6 (fun z => ?_) (fun z => ?_))
  · rw [decide_eq_true (show l.length < 6 by omega), Bool.and_true] at H'
    cases fb with
    | false => exact br_t rfl (H' a2 a3 ⟨fun _ => hA.1 rfl, fun q => absurd q (by decide)⟩)
    | true =>
      cases h with
      | false => exact br_f (by decide) (br_t rfl (H' a2 a3 ⟨fun q => absurd q (by decide), fun _ q => absurd q (by decide)⟩))
      | true =>
        have g := cs_len_iff.mp (hk rfl)
        have g5 : cs_len (t ++ [u ++ [l ++ [c]]]) := cs_len_iff.mpr ⟨g.1, g.2.1, g.2.2.1, by rw [List.length_append, List.length_singleton]; omega⟩
        have g1 := g.1.1
        have g2 := g.2.1
        exact br_f (by decide) (br_f (by decide) (nm_r (cs_e1 t.length u.length) ⟨pk_in ((t.length * 5 + u.length) * 6 + l.length) 180 (by omega) (cs_e2 _ _), nm_r (cs_cl (cs_e2 _ _) (by omega)) ⟨pk_in (t.length * 5 + u.length) 30 (by omega), nm_r (cs_cl rfl (by omega)) (H' _ _ ⟨fun q => absurd q (by decide), fun _ _ => cs_rep_take (hA.2 rfl rfl) g5⟩)⟩⟩))
  · rw [decide_eq_false (show ¬ l.length < 6 by omega), Bool.and_false] at H'
    cases fb with
    | false => exact br_t rfl (H' a2 a3 ⟨fun _ => hA.1 rfl, fun q => absurd q (by decide)⟩)
    | true => exact br_f (by decide) (br_t rfl (H' a2 a3 ⟨fun q => absurd q (by decide), fun _ q => absurd q (by decide)⟩))
theorem cs_wsF {T t : List (List (List Nat))} {u : List (List Nat)} {g : Nat} {h : Bool} (hg : u.length = g) (hu : g ≤ 1000) (ht : t.length ≤ 1000) (hT : T = t ++ [u] ∨ (T = t ∧ u = []))
    (hA : cs_A fb h T b1 b2 b3 a1 a2 a3) (hk : (h && decide (g + 1 ≤ 5)) = true → cs_len (t ++ [u ++ [[]]]))
    (H : ∀ a1' a2', cs_A fb (h && decide (g + 1 ≤ 5)) (t ++ [u ++ [[]]]) b1 b2 b3 a1' a2' a3 → post (cn, dr, ra, pt, kp, st, nI t.length, nI (g + 1), nI 0, ff, rg, cs_b (h && decide (g + 1 ≤ 5)), cs_b fb, sd, a1', a2', a3, a4, a5)) :
    wpX_startField post (cn, dr, ra, pt, kp, st, nI t.length, nI g, gz, ff, rg, cs_b h, cs_b fb, sd, a1, a2, a3, a4, a5) := by
  subst hg
  refine nm_r (nI_1 _) (pk_le (u.length + 1) 5 (fun z => ?_) (fun z => ?_))
  · rw [decide_eq_true z, Bool.and_true] at H hk
    cases fb with
    | false => exact br_t rfl (H a1 a2 ⟨fun _ => hA.1 rfl, fun q => absurd q (by decide)⟩)
    | true =>
      cases h with
      | false => exact br_f (by decide) (br_t rfl (H a1 a2 ⟨fun q => absurd q (by decide), fun _ q => absurd q (by decide)⟩))
      | true =>
        have g := cs_len_iff.mp (hk rfl)
        have g1 := g.1.1
        have g2 := g.2.1
        exact br_f (by decide) (br_f (by decide) ⟨pk_in t.length 6 (by omega), nm_r (cs_cl rfl (by omega)) ⟨pk_in (t.length * 5 + u.length) 30 (by omega) (cs_e1 _ _), nm_r (cs_cl (cs_e1 _ _) (by omega)) (H _ _ ⟨fun q => absurd q (by decide), fun _ _ => cs_rep_start (hA.2 rfl rfl) hT (hk rfl)⟩)⟩⟩)
  · rw [decide_eq_false (show ¬ u.length + 1 ≤ 5 by omega), Bool.and_false] at H
    cases fb with
    | false => exact br_t rfl (H a1 a2 ⟨fun _ => hA.1 rfl, fun q => absurd q (by decide)⟩)
    | true => exact br_f (by decide) (br_t rfl (H a1 a2 ⟨fun q => absurd q (by decide), fun _ q => absurd q (by decide)⟩))
theorem cs_wendR (hA : cs_A fb x.2.2.2.2 (cs_tab x) b1 b2 b3 a1 a2 a3) (x0 : ¬ x.1 = 0)
    (H : cs_K post cn dr ra pt kp sd a4 a5 fb b1 b2 b3 (cs_endR x)) :
    wpX_endRecord post (cn, dr, ra, pt, kp, st, nI x.2.1.length, gf, gz, ff, rg, cs_b x.2.2.2.2, cs_b fb, sd, a1, a2, a3, a4, a5) := by
  rw [cs_tab_n x0] at hA
  have H' : ∀ ff rg, post (cn, dr, ra, pt, kp, nI 0, nI (x.2.1.length + 1), gf, gz, ff, rg, cs_b x.2.2.2.2, cs_b fb, sd, a1, a2, a3, a4, a5) := by
    intro ff rg
    have e := H gf gz ff rg a1 a2 a3 ⟨fun q => absurd rfl q, hA⟩
    have e2 : (cs_endR x).2.1.length = x.2.1.length + 1 := by
      show (x.2.1 ++ [x.2.2.1 ++ [x.2.2.2.1]]).length = _
      rw [List.length_append, List.length_singleton]
    rw [e2] at e
    exact e
  exact br_c (fun _ => br_c (fun _ => nm_r (nI_1 _) (H' _ _)) (fun _ => nm_r (nI_1 _) (H' _ _))) (fun _ => br_c (fun _ => nm_r (nI_1 _) (H' _ _)) (fun _ => nm_r (nI_1 _) (H' _ _)))
theorem cs_Kset (x0 : ¬ x.1 = 0) (s0 : ¬ s = 0) (hA : cs_A fb x.2.2.2.2 (cs_tab x) b1 b2 b3 a1 a2 a3) (H : cs_K post cn dr ra pt kp sd a4 a5 fb b1 b2 b3 (cs_set s x)) :
    post (cn, dr, ra, pt, kp, nI s, nI x.2.1.length, nI (x.2.2.1.length + 1), nI x.2.2.2.1.length, ff, rg, cs_b x.2.2.2.2, cs_b fb, sd, a1, a2, a3, a4, a5) := by
  rw [cs_tab_n x0] at hA
  refine H _ _ _ _ _ _ _ ⟨fun _ => ⟨rfl, rfl⟩, ?_⟩
  rw [cs_tab_set s0]
  exact hA
theorem cs_wafter (hd : d < 8) (hc : c ≤ 10) (ok : cs_ok n x) (hn : n ≤ 900) (x0 : ¬ x.1 = 0) (x7 : ¬ x.1 = 7) (hA : cs_A fb x.2.2.2.2 (cs_tab x) b1 b2 b3 a1 a2 a3)
    (H : cs_K post cn dr ra pt kp sd a4 a5 fb b1 b2 b3 (cs_after d c x)) :
    wpX_afterField post (cn, dr, ra, pt, kp, st, nI x.2.1.length, nI (x.2.2.1.length + 1), nI x.2.2.2.1.length, ff, rg, cs_b x.2.2.2.2, cs_b fb, sd, a1, a2, a3, a4, a5) (nI c) (nI d) := by
  have o1 := ok.2.1
  have o2 := ok.2.2.1
  have hs := cs_sep_lt d
  have w40 : cs_after d c x = (if c = 8 ∧ d / 2 % 2 = 0 then cs_set 6 x else cs_set 7 x) → wX_afterField_40 post (nI c) (nI d) cn dr ra pt kp st (nI x.2.1.length) (nI (x.2.2.1.length + 1)) (nI x.2.2.2.1.length) ff rg (cs_b x.2.2.2.2) (cs_b fb) sd a1 a2 a3 a4 a5 := by
    intro e
    rw [e] at H
    refine pk_eq c 8 (fun w => ek_if (cs_e2d d hd) (fun v => ?_) (fun v => ?_)) (fun w => ?_)
    · rw [if_pos ⟨w, v⟩] at H
      exact cs_Kset (s := 6) x0 (by omega) hA H
    · rw [if_neg (fun q => v q.2)] at H
      exact cs_Kset (s := 7) x0 (by omega) hA H
    · rw [if_neg (fun q => w q.1)] at H
      exact cs_Kset (s := 7) x0 (by omega) hA H
  refine pk_eq c (cs_sep d) (fun z => ?_) (fun z => ?_) rfl (cs_esep d hd)
  · have e : cs_after d c x = cs_startF x := if_pos z
    rw [e] at H
    have hk := (cs_ok_startF ok x0 x7).2.2.2.2.1
    rw [cs_tab_n x0] at hA
    refine cs_wsF (t := x.2.1) (u := x.2.2.1 ++ [x.2.2.2.1]) (g := x.2.2.1.length + 1) (by rw [List.length_append, List.length_singleton]) (by omega) (by omega) (Or.inl rfl) hA hk (fun a1' a2' q => ?_)
    refine H _ _ _ _ _ _ _ ⟨fun _ => ⟨?_, rfl⟩, q⟩
    show nI (x.2.2.1.length + 1 + 1) = nI ((x.2.2.1 ++ [x.2.2.2.1]).length + 1)
    rw [List.length_append, List.length_singleton]
  · refine pk_eq c 9 (fun w => ek_if (cs_e2d d hd) (fun v => ?_) (fun v => ?_)) (fun w => ?_)
    · refine w40 ?_
      unfold cs_after
      rw [if_neg z, if_neg (fun q => q.2 v)]
    · have e : cs_after d c x = cs_endR x := by
        unfold cs_after
        rw [if_neg z, if_pos ⟨w, v⟩]
      rw [e] at H
      exact cs_wendR hA x0 (fun _ _ _ _ _ _ _ q => H _ _ _ _ _ _ _ q)
    · refine w40 ?_
      unfold cs_after
      rw [if_neg z, if_neg (fun q => w q.1)]
theorem cs_w155 (hd : d < 8) (hc : c ≤ 10) (ok : cs_ok n x) (hn : n ≤ 900) (x0 : ¬ x.1 = 0) (x7 : ¬ x.1 = 7) (hA : cs_A fb x.2.2.2.2 (cs_tab x) b1 b2 b3 a1 a2 a3)
    (H : cs_K post cn dr ra pt kp sd a4 a5 fb b1 b2 b3 (if ¬ x.1 = 4 ∧ c < 7 ∧ ¬ c = cs_sep d then cs_take 2 x c else cs_after d c x)) :
    wX_step_155 post (nI c) (nI d) cn dr ra pt kp (nI x.1) (nI x.2.1.length) (nI (x.2.2.1.length + 1)) (nI x.2.2.2.1.length) ff rg (cs_b x.2.2.2.2) (cs_b fb) sd a1 a2 a3 a4 a5 := by
  have hs := cs_sep_lt d
  have hx := ok.1
  have w191 : ¬ (¬ x.1 = 4 ∧ c < 7 ∧ ¬ c = cs_sep d) → wX_step_191 post (nI c) (nI d) cn dr ra pt kp (nI x.1) (nI x.2.1.length) (nI (x.2.2.1.length + 1)) (nI x.2.2.2.1.length) ff rg (cs_b x.2.2.2.2) (cs_b fb) sd a1 a2 a3 a4 a5 := by
    intro e
    rw [if_neg e] at H
    exact cs_wafter hd hc ok hn x0 x7 hA (fun _ _ _ _ _ _ _ q => H _ _ _ _ _ _ _ q)
  refine pk_eq x.1 4 (fun z => w191 (fun q => q.1 z)) (fun z => pk_le 7 c (fun w => w191 (fun q => absurd q.2.1 (by omega))) (fun w => pk_eq c (cs_sep d) (fun v => w191 (fun q => q.2.2 v)) (fun v => ?_) rfl (cs_esep d hd)))
  rw [if_pos ⟨z, w, v⟩] at H
  exact cs_wtake (s := 2) ok hn x0 (by omega) hA (fun _ _ _ _ _ _ _ q => H _ _ _ _ _ _ _ q)
theorem cs_w70 (hd : d < 8) (hc : c ≤ 10) (ok : cs_ok n x) (hn : n ≤ 900) (x0 : ¬ x.1 = 0) (x7 : ¬ x.1 = 7) (hA : cs_A fb x.2.2.2.2 (cs_tab x) b1 b2 b3 a1 a2 a3)
    (z3 : ¬ x.1 = 3) (z4 : ¬ (x.1 = 4 ∧ c = 7)) (H : cs_K post cn dr ra pt kp sd a4 a5 fb b1 b2 b3 (cs_stepB d c x)) :
    wX_step_70 post (nI c) (nI d) cn dr ra pt kp (nI x.1) (nI x.2.1.length) (nI (x.2.2.1.length + 1)) (nI x.2.2.2.1.length) ff rg (cs_b x.2.2.2.2) (cs_b fb) sd a1 a2 a3 a4 a5 := by
  have hx := ok.1
  unfold cs_stepB at H
  rw [if_neg z3, if_neg z4] at H
  refine pk_eq x.1 5 (fun z5 => ?_) (fun z5 => ?_)
  · rw [if_pos z5] at H
    refine pk_eq c 7 (fun w => ?_) (fun w => ?_)
    · rw [if_pos w] at H
      exact cs_wtake (s := 3) ok hn x0 (by omega) hA (fun _ _ _ _ _ _ _ q => H _ _ _ _ _ _ _ q)
    · rw [if_neg w] at H
      exact cs_wtake (s := 7) ok hn x0 (by omega) hA (fun _ _ _ _ _ _ _ q => H _ _ _ _ _ _ _ q)
  · rw [if_neg z5] at H
    refine pk_eq x.1 6 (fun z6 => ?_) (fun z6 => ?_)
    · rw [if_pos z6] at H
      refine pk_eq c 9 (fun w => ?_) (fun w => ?_)
      · rw [if_pos w] at H
        exact cs_wendR hA x0 (fun _ _ _ _ _ _ _ q => H _ _ _ _ _ _ _ q)
      · rw [if_neg w] at H
        exact cs_Kset (s := 7) x0 (by omega) hA H
    · rw [if_neg z6] at H
      refine pk_eq x.1 1 (fun z1 => pk_eq c 7 (fun w => ?_) (fun w => ?_)) (fun z1 => ?_)
      · rw [if_pos ⟨z1, w⟩] at H
        exact cs_Kset (s := 3) x0 (by omega) hA H
      · rw [if_neg (fun q => w q.2)] at H
        exact cs_w155 hd hc ok hn x0 x7 hA H
      · rw [if_neg (fun q => z1 q.1)] at H
        exact cs_w155 hd hc ok hn x0 x7 hA H
theorem cs_wB (hd : d < 8) (hc : c ≤ 10) (ok : cs_ok n x) (hn : n ≤ 900) (x0 : ¬ x.1 = 0) (x7 : ¬ x.1 = 7) (hA : cs_A fb x.2.2.2.2 (cs_tab x) b1 b2 b3 a1 a2 a3)
    (H : cs_K post cn dr ra pt kp sd a4 a5 fb b1 b2 b3 (cs_stepB d c x)) :
    wX_step_16 post (nI c) (nI d) cn dr ra pt kp (nI x.1) (nI x.2.1.length) (nI (x.2.2.1.length + 1)) (nI x.2.2.2.1.length) ff rg (cs_b x.2.2.2.2) (cs_b fb) sd a1 a2 a3 a4 a5 := by
  have hx := ok.1
  refine pk_eq x.1 3 (fun z3 => ?_) (fun z3 => pk_eq x.1 4 (fun z4 => pk_eq c 7 (fun w => ?_) (fun w => ?_)) (fun z4 => ?_))
  · unfold cs_stepB at H
    rw [if_pos z3] at H
    rw [z3]
    refine pk_eq c 7 (fun w => ?_) (fun w => pk_eq c 10 (fun v => pk_lt d 4 (fun k => ?_) (fun k => ?_)) (fun v => ?_))
    · rw [if_pos w] at H
      exact cs_Kset (s := 4) x0 (by omega) hA H
    · rw [if_neg w, if_pos v, if_pos k] at H
      exact cs_Kset (s := 7) x0 (by omega) hA H
    · rw [if_neg w, if_pos v, if_neg (by omega)] at H
      exact cs_Kset (s := 5) x0 (by omega) hA H
    · rw [if_neg w, if_neg v] at H
      exact cs_wtake ok hn x0 (by omega) hA (fun _ _ _ _ _ _ _ q => H _ _ _ _ _ _ _ q)
  · unfold cs_stepB at H
    rw [if_neg z3, if_pos ⟨z4, w⟩] at H
    refine pk_le 4 d (fun k => ?_) (fun k => ?_)
    · rw [if_pos k] at H
      exact cs_wtake (s := 7) ok hn x0 (by omega) hA (fun _ _ _ _ _ _ _ q => H _ _ _ _ _ _ _ q)
    · rw [if_neg (by omega)] at H
      exact cs_wtake (s := 3) ok hn x0 (by omega) hA (fun _ _ _ _ _ _ _ q => H _ _ _ _ _ _ _ q)
  · exact cs_w70 hd hc ok hn x0 x7 hA z3 (fun q => w q.2) H
  · exact cs_w70 hd hc ok hn x0 x7 hA z3 (fun q => z4 q.1) H
theorem cs_wstep (hd : d < 8) (hc : c ≤ 10) (ok : cs_ok n x) (hn : n ≤ 900) (x7 : ¬ x.1 = 7) (hP : cs_P fb x b1 b2 b3 gf gz a1 a2 a3)
    (H : cs_K post cn dr ra pt kp sd a4 a5 fb b1 b2 b3 (cs_step d c x)) :
    wpX_step post (cn, dr, ra, pt, kp, nI x.1, nI x.2.1.length, gf, gz, ff, rg, cs_b x.2.2.2.2, cs_b fb, sd, a1, a2, a3, a4, a5) (nI c) (nI d) := by
  have hx := ok.1
  have o1 := ok.2.1
  unfold cs_step at H
  refine pk_eq x.1 0 (fun z => ?_) (fun z => ?_)
  · rw [if_pos z] at H
    have ok' := cs_ok_startR ok z
    have hA := hP.2
    rw [cs_tab_0 z] at hA
    refine pk_lt x.2.1.length 6 (fun w => ?_) (fun w => ?_)
    · have e : (cs_startR x).2.2.2.2 = (x.2.2.2.2 && decide (0 + 1 ≤ 5)) := by
        show (x.2.2.2.2 && decide (x.2.1.length < 6)) = _
        rw [decide_eq_true w, decide_eq_true (by omega)]
      refine cs_wsF (t := x.2.1) (u := []) (g := 0) (h := x.2.2.2.2) rfl (by omega) (by omega) (Or.inr ⟨rfl, rfl⟩) hA (fun q => ok'.2.2.2.2.1 (e.trans q)) (fun a1' a2' q => ?_)
      rw [← e] at q ⊢
      exact cs_wB hd hc ok' hn (by show ¬ 1 = 0; omega) (by show ¬ 1 = 7; omega) q H
    · have e : (cs_startR x).2.2.2.2 = (false && decide (0 + 1 ≤ 5)) := by
        show (x.2.2.2.2 && decide (x.2.1.length < 6)) = _
        rw [decide_eq_false (by omega), Bool.and_false]
        rfl
      refine cs_wsF (t := x.2.1) (u := []) (g := 0) (h := false) rfl (by omega) (by omega) (Or.inr ⟨rfl, rfl⟩) ⟨hA.1, fun _ q => absurd q (by decide)⟩ (fun q => absurd q (by decide)) (fun a1' a2' q => ?_)
      rw [← e] at q ⊢
      exact cs_wB hd hc ok' hn (by show ¬ 1 = 0; omega) (by show ¬ 1 = 7; omega) q H
  · rw [if_neg z] at H
    obtain ⟨rfl, rfl⟩ := hP.1 z
    exact cs_wB hd hc ok hn z x7 hP.2 H
end
end
section
theorem cs_drop {α : Type} {X rest : List α} {c : α} {i : Nat} (e : X.drop i = c :: rest) : X[i]? = some c ∧ X.drop (i + 1) = rest := by
  have h1 : (X.drop i)[0]? = some c := by rw [e]; rfl
  rw [List.getElem?_drop] at h1
  refine ⟨h1, ?_⟩
  have h2 : (X.drop i).drop 1 = rest := by rw [e]; rfl
  rw [List.drop_drop] at h2
  exact h2
def cs_Q (post : Int32 → St1 → Prop) (cn dr ra pt kp : Int32) (a4 a5 : Nat → Int32) (fb : Bool) (b1 b2 b3 : Nat → Int32) (m : Nat) (x : cs_Rd) : Prop :=
  ∀ (k : Nat) (gf gz ff rg : Int32) (a1 a2 a3 : Nat → Int32), k ≤ m → (¬ x.1 = 7 → k = m) → cs_A fb x.2.2.2.2 (cs_tab x) b1 b2 b3 a1 a2 a3 → post (cs_b (decide (x.1 = 0))) (cn, dr, ra, pt, kp, nI x.1, nI x.2.1.length, gf, gz, ff, rg, cs_b x.2.2.2.2, cs_b fb, nI k, a1, a2, a3, a4, a5)
section
variable {cn dr ra pt kp st gr gf gz ff rg hl fl sd : Int32} {a1 a2 a3 a4 a5 : Nat → Int32} {post : Int32 → St1 → Prop} {b1 b2 b3 : Nat → Int32} {fb : Bool} {x : cs_Rd} {n c d s k m : Nat}
theorem cs_w125 (hx : x.1 ≤ 7) (hk : k ≤ m) (hk7 : ¬ x.1 = 7 → k = m) (hA : cs_A fb x.2.2.2.2 (cs_tab x) b1 b2 b3 a1 a2 a3)
    (H : cs_Q post cn dr ra pt kp a4 a5 fb b1 b2 b3 m x) :
    wX_readAll_125 post cn dr ra pt kp (nI x.1) (nI x.2.1.length) gf gz ff rg (cs_b x.2.2.2.2) (cs_b fb) (nI k) a1 a2 a3 a4 a5 := by
  have e := H k gf gz ff rg a1 a2 a3 hk hk7 hA
  refine pk_eq x.1 0 (fun z => ?_) (fun z => ?_)
  · rw [decide_eq_true z] at e
    exact e
  · rw [decide_eq_false z] at e
    exact e
theorem cs_w97 (hx : x.1 ≤ 7) (hP : cs_P fb x b1 b2 b3 gf gz a1 a2 a3) (hk : k ≤ m) (hk7 : ¬ x.1 = 7 → k = m)
    (H : cs_Q post cn dr ra pt kp a4 a5 fb b1 b2 b3 m (cs_fin x)) :
    wX_readAll_97 post cn dr ra pt kp (nI x.1) (nI x.2.1.length) gf gz ff rg (cs_b x.2.2.2.2) (cs_b fb) (nI k) a1 a2 a3 a4 a5 := by
  have w121 : (x.1 = 1 ∨ x.1 = 2 ∨ x.1 = 4) → wX_readAll_121 post cn dr ra pt kp (nI x.1) (nI x.2.1.length) gf gz ff rg (cs_b x.2.2.2.2) (cs_b fb) (nI k) a1 a2 a3 a4 a5 := by
    intro e
    have ef : cs_fin x = cs_endR x := if_pos e
    rw [ef] at H
    refine cs_wendR hP.2 (by omega) (fun gf gz ff rg a1 a2 a3 q => ?_)
    exact cs_w125 (x := cs_endR x) (Nat.zero_le _) hk (fun _ => hk7 (by omega)) q.2 H
  refine pk_eq x.1 1 (fun z => w121 (Or.inl z)) (fun z1 => pk_eq x.1 2 (fun z => w121 (Or.inr (Or.inl z))) (fun z2 => pk_eq x.1 4 (fun z => w121 (Or.inr (Or.inr z))) (fun z4 => ?_)))
  have ef : cs_fin x = x := if_neg (by omega)
  rw [ef] at H
  exact cs_w125 hx hk hk7 hP.2 H
theorem cs_w47 {X : List Nat} (hd : d < 8) (hX : X.length ≤ 96) (h10 : ∀ c ∈ X, c ≤ 10) (h5 : cs_lst X a5)
    (H : cs_Q post cn dr (nI X.length) pt kp a4 a5 fb b1 b2 b3 X.length (cs_run d X)) :
    ∀ (rest : List Nat) (i k : Nat) (x : cs_Rd) (gf gz ff rg : Int32) (a1 a2 a3 : Nat → Int32), X.drop i = rest → i ≤ X.length → cs_fin (cs_go d x rest) = cs_run d X → cs_ok i x → cs_P fb x b1 b2 b3 gf gz a1 a2 a3 → k ≤ X.length → (¬ x.1 = 7 → k = i) →
    wX_readAll_47 post (nI d) (rest.length + 1) (nI i) cn dr (nI X.length) pt kp (nI x.1) (nI x.2.1.length) gf gz ff rg (cs_b x.2.2.2.2) (cs_b fb) (nI k) a1 a2 a3 a4 a5 := by
  intro rest
  induction rest with
  | nil =>
    intro i k x gf gz ff rg a1 a2 a3 e hi hr ok hP hk hk7
    have hl : X.length ≤ i := List.drop_eq_nil_iff.mp e
    have hr' : cs_fin x = cs_run d X := hr
    refine pk_le X.length i (fun _ => ?_) (fun z => absurd z (by omega))
    exact cs_w97 ok.1 hP hk (fun q => by rw [hk7 q]; omega) (by rw [hr']; exact H)
  | cons c rest ih =>
    intro i k x gf gz ff rg a1 a2 a3 e hi hr ok hP hk hk7
    obtain ⟨g1, g2⟩ := cs_drop e
    have hi' := cs_lt g1
    have hx := ok.1
    refine pk_le X.length i (fun z => absurd z (by omega)) (fun _ => pk_eq x.1 7 (fun z => ?_) (fun z => ⟨pk_in i 96 (by omega), ?_⟩))
    · rw [cs_go7 _ z] at hr
      exact cs_w97 ok.1 hP hk (fun q => absurd z q) (by rw [hr]; exact H)
    · rw [cs_go1 z] at hr
      have hc := h10 c (cs_gm g1)
      rw [cs_cg (f := a5) (i := nI i) (k := i) rfl (by omega), h5 i c g1]
      have ok' := cs_ok_step (d := d) ok z hc
      have hx' := ok'.1
      refine cs_wstep hd hc ok (by omega) z hP (fun gf gz ff rg a1 a2 a3 q => ?_)
      refine pk_eq (cs_step d c x).1 7 (fun w => nm_r (nI_1 i) ?_) (fun w => nm_r (nI_1 i) (nm_r (nI_1 i) ?_))
      · exact ih (i + 1) k (cs_step d c x) _ _ _ _ _ _ _ g2 hi' hr ok' q hk (fun q => absurd w q)
      · exact ih (i + 1) (i + 1) (cs_step d c x) _ _ _ _ _ _ _ g2 hi' hr ok' q hi' (fun _ => rfl)
theorem cs_wread {X : List Nat} (hd : d < 8) (hX : X.length ≤ 96) (h10 : ∀ c ∈ X, c ≤ 10) (h5 : cs_lst X a5)
    (H : cs_Q post cn dr (nI X.length) pt kp a4 a5 fb a1 a2 a3 X.length (cs_run d X)) :
    wpX_readAll post (cn, dr, nI X.length, pt, kp, st, gr, gf, gz, ff, rg, hl, fl, sd, a1, a2, a3, a4, a5) (nI d) (cs_b fb) := by
  refine ⟨?_, ?_, X.length + 1, ?_⟩
  · cases fb <;> rfl
  · cases fb <;> rfl
  · exact cs_w47 hd hX h10 h5 H X 0 0 cs_x0 0 0 0 1 a1 a2 a3 rfl (Nat.zero_le _) rfl cs_ok_x0 ⟨fun q => absurd rfl q, fun _ => ⟨rfl, rfl, rfl⟩, fun _ _ r R h => absurd (show some R = none from h.symm) (Option.some_ne_none R)⟩ (Nat.zero_le _) (fun _ => rfl)
end
/-! a whole state matches a table, a raw text and a draft -/
def cs_R (T : List (List (List Nat))) (X D : List Nat) (s : St1) : Prop := match s with
  | (cn, dr, ra, pt, kp, st, gr, gf, gz, ff, rg, hl, fl, sd, a1, a2, a3, a4, a5) => cn = nI T.length ∧ dr = nI D.length ∧ ra = nI X.length ∧ cs_rep T a1 a2 a3 ∧ cs_lst D a4 ∧ cs_lst X a5
def cs_W (T : List (List (List Nat))) (X D : List Nat) : Prop := cs_len T ∧ cs_chr T ∧ X.length ≤ 96 ∧ (∀ c ∈ X, c ≤ 10) ∧ D.length ≤ 6 ∧ (∀ c ∈ D, c ≤ 9)
section
variable {T : List (List (List Nat))} {X D : List Nat} {s : St1} {d : Nat} {post : Int32 → St1 → Prop}
theorem cs_wsound (w : cs_W T X D) (hs : cs_R T X D s) (hd : d < 8) (H : ∀ k s', cs_R T X D s' → k ≤ X.length → (¬ (cs_run d X).1 = 7 → k = X.length) → post (nI k) s') : wpX_sound post s (nI d) := by
  obtain ⟨cn, dr, ra, pt, kp, st, gr, gf, gz, ff, rg, hl, fl, sd, a1, a2, a3, a4, a5⟩ := s
  obtain ⟨rfl, rfl, rfl, h1, h2, h3⟩ := hs
  refine pk_lt d 0 (fun z => absurd z (by omega)) (fun _ => pk_le d 7 (fun _ => br_t rfl ?_) (fun z => absurd z (by omega)))
  refine cs_wread (fb := false) hd w.2.2.1 w.2.2.2.1 h3 (fun k gf gz ff rg a1' a2' a3' hk hk7 hA => ?_)
  obtain ⟨rfl, rfl, rfl⟩ := hA.1 rfl
  exact H k _ ⟨rfl, rfl, rfl, h1, h2, h3⟩ hk hk7
theorem cs_wrd (w : cs_W T X D) (hs : cs_R T X D s) (hd : d < 8) (H5 : ¬ (cs_run d X).1 = 0 → ∀ s', cs_R T X D s' → post (-5) s') (H2 : (cs_run d X).1 = 0 → (cs_run d X).2.2.2.2 = false → ∀ s', cs_R T X D s' → post (-2) s')
    (H0 : (cs_run d X).1 = 0 → (cs_run d X).2.2.2.2 = true → ∀ s', cs_R (cs_run d X).2.1 X D s' → post (nI (cs_run d X).2.1.length) s') : wpX_read post s (nI d) := by
  obtain ⟨cn, dr, ra, pt, kp, st, gr, gf, gz, ff, rg, hl, fl, sd, a1, a2, a3, a4, a5⟩ := s
  obtain ⟨rfl, rfl, rfl, h1, h2, h3⟩ := hs
  refine pk_lt d 0 (fun z => absurd z (by omega)) (fun _ => pk_le d 7 (fun _ => br_t rfl ?_) (fun z => absurd z (by omega)))
  refine cs_wread (fb := false) hd w.2.2.1 w.2.2.2.1 h3 (fun k gf gz ff rg a1' a2' a3' hk hk7 hA => ?_)
  obtain ⟨rfl, rfl, rfl⟩ := hA.1 rfl
  by_cases z : (cs_run d X).1 = 0
  · refine br_f (by rw [decide_eq_true z]; decide) ?_
    rcases Bool.eq_false_or_eq_true (cs_run d X).2.2.2.2 with hh | hh
    · refine br_f (by rw [hh]; decide) ?_
      refine cs_wread (fb := true) hd w.2.2.1 w.2.2.2.1 h3 (fun k gf gz ff rg a1' a2' a3' hk hk7 hA => ?_)
      have g := hA.2 rfl hh
      rw [cs_tab_0 z] at g
      exact H0 z hh _ ⟨rfl, rfl, rfl, g, h2, h3⟩
    · exact br_t (by rw [hh]; rfl) (H2 z hh _ ⟨rfl, rfl, rfl, h1, h2, h3⟩)
  · exact br_t (by rw [decide_eq_false z]; rfl) (H5 z _ ⟨rfl, rfl, rfl, h1, h2, h3⟩)
end
/-! bits: rows of the kit's BITS.to-paste, renamed -/
def cs_bt (x : Int32) (i : Nat) : Bool := x.toBitVec.getLsbD i
theorem cs_bor (x y : Int32) (i : Nat) : cs_bt (x ||| y) i = (cs_bt x i || cs_bt y i) := by unfold cs_bt; rw [Int32.toBitVec_or, BitVec.getLsbD_or]
theorem cs_band (x y : Int32) (i : Nat) : cs_bt (x &&& y) i = (cs_bt x i && cs_bt y i) := by unfold cs_bt; rw [Int32.toBitVec_and, BitVec.getLsbD_and]
theorem cs_bsl : ∀ n, n < 32 → ((nI n &&& 31).toBitVec.smod 32).toNat = n := by decide +kernel
theorem cs_bshl (n : Nat) (hn : n < 32) (x : Int32) {i : Nat} (hi : i < 32) : cs_bt (x <<< (nI n &&& 31)) i = (decide (n ≤ i) && cs_bt x (i - n)) := by
  unfold cs_bt
  rw [Int32.toBitVec_shiftLeft]
  show (x.toBitVec <<< ((nI n &&& 31).toBitVec.smod 32).toNat).getLsbD i = _
  rw [cs_bsl n hn, BitVec.getLsbD_shiftLeft]
  rcases Nat.lt_or_ge i n with h | h
  · simp [h, Nat.not_le.mpr h]
  · simp [hi, h, Nat.not_lt.mpr h]
theorem cs_bsshr (n : Nat) (hn : n < 32) (x : Int32) {i : Nat} (hi : i < 32) : cs_bt (x >>> (nI n &&& 31)) i = if n + i < 32 then cs_bt x (n + i) else cs_bt x 31 := by
  unfold cs_bt
  rw [Int32.toBitVec_shiftRight]
  show (x.toBitVec.sshiftRight ((nI n &&& 31).toBitVec.smod 32).toNat).getLsbD i = _
  rw [cs_bsl n hn, BitVec.getLsbD_sshiftRight, BitVec.msb_eq_getLsbD_last]
  simp [hi]
theorem cs_b1 : ∀ k, k < 32 → cs_bt 1 k = true → k = 0 := by decide +kernel
theorem cs_bit {e : Int32} {j : Nat} (hj : j < 8) (h : (e >>> (nI j &&& 31)) &&& 1 = 1) : cs_bt e j = true := by
  have h1 := congrArg (fun v => cs_bt v 0) h
  rw [cs_band, cs_bsshr j (by omega) e (by omega), if_pos (by omega), show cs_bt 1 0 = true by decide, Bool.and_true] at h1
  exact h1
theorem cs_bstep {e : Int32} {d j : Nat} (hd : d < 8) (hj : j < 8) (h : cs_bt (e ||| ((1 : Int32) <<< (nI d &&& 31))) j = true) : cs_bt e j = true ∨ j = d := by
  rw [cs_bor, Bool.or_eq_true, cs_bshl d (by omega) 1 (by omega), Bool.and_eq_true, decide_eq_true_eq] at h
  rcases h with h | ⟨h, h'⟩
  · exact Or.inl h
  · have := cs_b1 _ (by omega) h'
    exact Or.inr (by omega)
section
variable {cn dr ra pt kp st gr gf gz ff rg hl fl sd : Int32} {a1 a2 a3 a4 a5 : Nat → Int32} {X : List Nat} {post : Int32 → St1 → Prop}
theorem cs_weven4 (hX : X.length ≤ 96) (h10 : ∀ c ∈ X, c ≤ 10) (h5 : cs_lst X a5)
    (H : ∀ e st gr gf gz ff rg hl fl sd, (∀ j, j < 8 → cs_bt e j = true → (cs_run j X).1 = 0) → post e (cn, dr, nI X.length, pt, kp, st, gr, gf, gz, ff, rg, hl, fl, sd, a1, a2, a3, a4, a5)) :
    ∀ (m d : Nat) (e st gr gf gz ff rg hl fl sd : Int32), d + m = 8 → (∀ j, j < 8 → cs_bt e j = true → (cs_run j X).1 = 0) → wX_even_4 post (m + 1) e (nI d) cn dr (nI X.length) pt kp st gr gf gz ff rg hl fl sd a1 a2 a3 a4 a5 := by
  intro m
  induction m with
  | zero =>
    intro d e st gr gf gz ff rg hl fl sd hm he
    exact pk_le 8 d (fun _ => H _ _ _ _ _ _ _ _ _ _ he) (fun z => absurd z (by omega))
  | succ m ih =>
    intro d e st gr gf gz ff rg hl fl sd hm he
    refine pk_le 8 d (fun z => absurd z (by omega)) (fun z => ?_)
    refine cs_wread (fb := false) (by omega) hX h10 h5 (fun k gf gz ff rg a1' a2' a3' hk hk7 hA => ?_)
    obtain ⟨rfl, rfl, rfl⟩ := hA.1 rfl
    by_cases z : (cs_run d X).1 = 0
    · refine br_f (by rw [decide_eq_true z]; decide) (br_c (fun _ => nm_r (nI_1 d) (ih _ _ _ _ _ _ _ _ _ _ _ (by omega) he)) (fun _ => nm_e (nm_r (nI_1 d) (ih _ _ _ _ _ _ _ _ _ _ _ (by omega) (fun j hj hb => ?_)))))
      rcases cs_bstep (by omega) hj hb with q | q
      · exact he j hj q
      · rw [q]
        exact z
    · exact br_t (by rw [decide_eq_false z]; rfl) (nm_r (nI_1 d) (ih _ _ _ _ _ _ _ _ _ _ _ (by omega) he))
end
theorem cs_weven {T : List (List (List Nat))} {X D : List Nat} {s : St1} {post : Int32 → St1 → Prop} (w : cs_W T X D) (hs : cs_R T X D s)
    (H : ∀ e s', cs_R T X D s' → (∀ j, j < 8 → (e >>> (nI j &&& 31)) &&& 1 = 1 → (cs_run j X).1 = 0) → post e s') : wpX_even post s := by
  obtain ⟨cn, dr, ra, pt, kp, st, gr, gf, gz, ff, rg, hl, fl, sd, a1, a2, a3, a4, a5⟩ := s
  obtain ⟨rfl, rfl, rfl, h1, h2, h3⟩ := hs
  refine ⟨9, cs_weven4 w.2.2.1 w.2.2.2.1 h3 (fun e st gr gf gz ff rg hl fl sd he => H e _ ⟨rfl, rfl, rfl, h1, h2, h3⟩ (fun j hj hb => he j hj (cs_bit hj hb))) 8 0 0 _ _ _ _ _ _ _ _ _ (by omega) (fun j hj hb => ?_)⟩
  have : cs_bt 0 j = false := BitVec.getLsbD_zero
  rw [this] at hb
  exact absurd hb (by decide)
end
section
/-! the writer's walk -/
def cs_E (kb : Bool) (o : List Nat) (b5 a5 : Nat → Int32) : Prop := (kb = false → a5 = b5) ∧ (kb = true → cs_lst o a5)
theorem cs_wsep {post : Int32 → Prop} {s : St1} {d : Nat} (hd : d < 8) (h : post (nI (cs_sep d))) : wpX_separator post s (nI d) := by
  obtain ⟨cn, dr, ra, pt, kp, st, gr, gf, gz, ff, rg, hl, fl, sd, a1, a2, a3, a4, a5⟩ := s
  show post (5 + (nI d &&& 1))
  rw [cs_esep d hd]
  exact h
section
variable {cn dr ra pt kp st gr gf gz ff rg hl fl sd : Int32} {a1 a2 a3 a4 a5 : Nat → Int32} {post : St1 → Prop} {b5 : Nat → Int32} {kb : Bool} {o : List Nat} {c d k : Nat} {l : List Nat}
theorem cs_wemit (hb : kb = true → o.length < 96) (hE : cs_E kb o b5 a5) (H : ∀ a5', cs_E kb (o ++ [c]) b5 a5' → post (cn, dr, ra, nI (o ++ [c]).length, cs_b kb, st, gr, gf, gz, ff, rg, hl, fl, sd, a1, a2, a3, a4, a5')) :
    wpX_emit post (cn, dr, ra, nI o.length, cs_b kb, st, gr, gf, gz, ff, rg, hl, fl, sd, a1, a2, a3, a4, a5) (nI c) := by
  rw [List.length_append, List.length_singleton] at H
  cases kb with
  | false => exact br_t rfl (nm_r (nI_1 _) (H a5 ⟨fun _ => hE.1 rfl, fun q => absurd q (by decide)⟩))
  | true =>
    have hb' := hb rfl
    refine br_f (by decide) ⟨pk_in o.length 96 hb', nm_r (cs_cl rfl (by omega)) (nm_r (nI_1 _) (H _ ⟨fun q => absurd q (by decide), fun _ i a h => ?_⟩))⟩
    rcases cs_gl h with ⟨g, g'⟩ | ⟨g, g'⟩
    · rw [pk_un (by omega)]
      exact hE.2 rfl i a g'
    · rw [g, g', pk_us]
theorem cs_wnq2 {post : Int32 → Prop} (hd : d < 8) (hk : k < 30) (h2 : a2 k = nI l.length) (h3 : ∀ (i c : Nat), l[i]? = some c → a3 (k * 6 + i) = nI c) (hln : l.length ≤ 6) (h9 : ∀ c ∈ l, c ≤ 9) :
    ∀ (rest : List Nat) (i : Nat), l.drop i = rest → i ≤ l.length → post (cs_b (cs_nq d rest)) → wX_needsQuotes_2 post (nI k) (nI d) cn dr ra pt kp st gr gf gz ff rg hl fl sd a1 a2 a3 a4 a5 (rest.length + 1) (nI i) := by
  have he : a2 (nI k).toNatClampNeg = nI l.length := by rw [nI_clamp (by omega), h2]
  have hs := cs_sep_lt d
  intro rest
  induction rest with
  | nil =>
    intro i e hi H
    have hln' : l.length ≤ i := List.drop_eq_nil_iff.mp e
    exact ⟨pk_in k 30 hk, pk_le l.length i (fun _ => H) (fun z => absurd z (by omega)) he⟩
  | cons c rest ih =>
    intro i e hi H
    obtain ⟨g1, g2⟩ := cs_drop e
    have hi' := cs_lt g1
    have hc := h9 c (cs_gm g1)
    have h3' : a3 (nI k * 6 + nI i).toNatClampNeg = nI c := by rw [cs_e4, nI_clamp (by omega), h3 i c g1]
    refine ⟨pk_in k 30 hk, pk_le l.length i (fun z => absurd z (by omega)) (fun _ => ⟨pk_in (k * 6 + i) 180 (by omega) (cs_e4 k i), nm_r h3' (pk_le 7 c (fun w => ?_) (fun w => pk_eq c (cs_sep d) (fun v => ?_) (fun v => nm_r (nI_1 i) (ih (i + 1) g2 hi' ?_)) rfl (cs_esep d hd)))⟩) he⟩
    · have q : cs_nq d (c :: rest) = true := by
        unfold cs_nq
        rw [List.any_cons, decide_eq_true w, Bool.true_or, Bool.true_or]
      rw [q] at H
      exact H
    · have q : cs_nq d (c :: rest) = true := by
        unfold cs_nq
        rw [List.any_cons, decide_eq_true v, Bool.or_true, Bool.true_or]
      rw [q] at H
      exact H
    · have q : cs_nq d (c :: rest) = cs_nq d rest := by
        unfold cs_nq
        rw [List.any_cons, decide_eq_false (by omega), decide_eq_false v, Bool.or_false, Bool.false_or]
      rw [q] at H
      exact H
theorem cs_w58 {q : Bool} (hd : d < 8) (hk : k < 30) (h2 : a2 k = nI l.length) (h3 : ∀ (i c : Nat), l[i]? = some c → a3 (k * 6 + i) = nI c) (hln : l.length ≤ 6) (h9 : ∀ c ∈ l, c ≤ 9) :
    ∀ (rest : List Nat) (i : Nat) (o : List Nat) (a5 : Nat → Int32), l.drop i = rest → i ≤ l.length → (kb = true → (o ++ (rest.flatMap (cs_esc d) ++ cs_qs q)).length ≤ 96) → cs_E kb o b5 a5 →
    (∀ a5', cs_E kb (o ++ (rest.flatMap (cs_esc d) ++ cs_qs q)) b5 a5' → post (cn, dr, ra, nI (o ++ (rest.flatMap (cs_esc d) ++ cs_qs q)).length, cs_b kb, st, gr, gf, gz, ff, rg, hl, fl, sd, a1, a2, a3, a4, a5')) →
    wX_writeField_58 post (nI d) (nI k) (cs_b q) (rest.length + 1) (nI i) cn dr ra (nI o.length) (cs_b kb) st gr gf gz ff rg hl fl sd a1 a2 a3 a4 a5 := by
  have he : a2 (nI k).toNatClampNeg = nI l.length := by rw [nI_clamp (by omega), h2]
  intro rest
  induction rest with
  | nil =>
    intro i o a5 e hi hb hE H
    have hln' : l.length ≤ i := List.drop_eq_nil_iff.mp e
    refine ⟨pk_in k 30 hk, pk_le l.length i (fun _ => ?_) (fun z => absurd z (by omega)) he⟩
    cases q with
    | false =>
      have eo : o ++ (List.flatMap (cs_esc d) [] ++ cs_qs false) = o := List.append_nil o
      rw [eo] at H
      exact br_t rfl (H a5 hE)
    | true =>
      have eo : o ++ (List.flatMap (cs_esc d) [] ++ cs_qs true) = o ++ [7] := rfl
      rw [eo] at H hb
      refine br_f (by decide) (cs_wemit (c := 7) (fun w => ?_) hE (fun a5' hE' => H a5' hE'))
      have := hb w
      rw [List.length_append, List.length_singleton] at this
      omega
  | cons c rest ih =>
    intro i o a5 e hi hb hE H
    obtain ⟨g1, g2⟩ := cs_drop e
    have hi' := cs_lt g1
    have hc := h9 c (cs_gm g1)
    have h3' : a3 (nI k * 6 + nI i).toNatClampNeg = nI c := by rw [cs_e4, nI_clamp (by omega), h3 i c g1]
    rw [List.flatMap_cons] at H hb
    have w108 : ∀ o' a5', o ++ (cs_esc d c ++ List.flatMap (cs_esc d) rest ++ cs_qs q) = (o' ++ [c]) ++ (List.flatMap (cs_esc d) rest ++ cs_qs q) → cs_E kb o' b5 a5' →
        wX_writeField_108 post (wX_writeField_58 post (nI d) (nI k) (cs_b q) (rest.length + 1)) (nI d) (nI k) (cs_b q) (nI i) (nI c) cn dr ra (nI o'.length) (cs_b kb) st gr gf gz ff rg hl fl sd a1 a2 a3 a4 a5' := by
      intro o' a5' eo hE'
      rw [eo] at H hb
      refine cs_wemit (c := c) (fun w => ?_) hE' (fun a5'' hE'' => nm_r (nI_1 i) (ih (i + 1) (o' ++ [c]) a5'' g2 hi' hb hE'' H))
      have := hb w
      simp only [List.length_append, List.length_singleton] at this
      omega
    refine ⟨pk_in k 30 hk, pk_le l.length i (fun z => absurd z (by omega)) (fun _ => ⟨pk_in (k * 6 + i) 180 (by omega) (cs_e4 k i), nm_r h3' (pk_eq c 7 (fun w => pk_lt d 4 (fun v => ?_) (fun v => ?_)) (fun w => ?_))⟩) he⟩
    · have eo : o ++ (cs_esc d c ++ List.flatMap (cs_esc d) rest ++ cs_qs q) = ((o ++ [7]) ++ [c]) ++ (List.flatMap (cs_esc d) rest ++ cs_qs q) := by
        unfold cs_esc
        rw [if_pos w, if_pos v, w]
        simp
      refine cs_wemit (c := 7) (fun w => ?_) hE (fun a5' hE' => w108 (o ++ [7]) a5' eo hE')
      rw [eo] at hb
      have := hb w
      simp only [List.length_append, List.length_singleton] at this
      omega
    · have eo : o ++ (cs_esc d c ++ List.flatMap (cs_esc d) rest ++ cs_qs q) = ((o ++ [10]) ++ [c]) ++ (List.flatMap (cs_esc d) rest ++ cs_qs q) := by
        unfold cs_esc
        rw [if_pos w, if_neg (by omega), w]
        simp
      refine cs_wemit (c := 10) (fun w => ?_) hE (fun a5' hE' => w108 (o ++ [10]) a5' eo hE')
      rw [eo] at hb
      have := hb w
      simp only [List.length_append, List.length_singleton] at this
      omega
    · have eo : o ++ (cs_esc d c ++ List.flatMap (cs_esc d) rest ++ cs_qs q) = (o ++ [c]) ++ (List.flatMap (cs_esc d) rest ++ cs_qs q) := by
        unfold cs_esc
        rw [if_neg w]
        simp
      exact w108 o a5 eo hE
theorem cs_w42 {q : Bool} (hd : d < 8) (hk : k < 30) (h2 : a2 k = nI l.length) (h3 : ∀ (i c : Nat), l[i]? = some c → a3 (k * 6 + i) = nI c) (hln : l.length ≤ 6) (h9 : ∀ c ∈ l, c ≤ 9)
    (hb : kb = true → (o ++ (cs_qs q ++ (l.flatMap (cs_esc d) ++ cs_qs q))).length ≤ 96) (hE : cs_E kb o b5 a5)
    (H : ∀ a5', cs_E kb (o ++ (cs_qs q ++ (l.flatMap (cs_esc d) ++ cs_qs q))) b5 a5' → post (cn, dr, ra, nI (o ++ (cs_qs q ++ (l.flatMap (cs_esc d) ++ cs_qs q))).length, cs_b kb, st, gr, gf, gz, ff, rg, hl, fl, sd, a1, a2, a3, a4, a5')) :
    wX_writeField_42 post (nI d) (nI k) (cs_b q) cn dr ra (nI o.length) (cs_b kb) st gr gf gz ff rg hl fl sd a1 a2 a3 a4 a5 := by
  cases q with
  | false => exact br_t rfl ⟨l.length + 1, cs_w58 (q := false) hd hk h2 h3 hln h9 l 0 o a5 rfl (Nat.zero_le _) hb hE H⟩
  | true =>
    have eo : o ++ (cs_qs true ++ (l.flatMap (cs_esc d) ++ cs_qs true)) = (o ++ [7]) ++ (l.flatMap (cs_esc d) ++ cs_qs true) := (List.append_assoc o [7] _).symm
    rw [eo] at H hb
    refine br_f (by decide) (cs_wemit (c := 7) (fun w => ?_) hE (fun a5' hE' => ⟨l.length + 1, cs_w58 (q := true) hd hk h2 h3 hln h9 l 0 (o ++ [7]) a5' rfl (Nat.zero_le _) hb hE' H⟩))
    have := hb w
    simp only [List.length_append, List.length_singleton] at this
    omega
theorem cs_wwF {T : List (List (List Nat))} {R : List (List Nat)} {r f : Nat} (hd : d < 8) (hT : cs_len T) (hc : cs_chr T) (hr : cs_rep T a1 a2 a3) (hR : T[r]? = some R) (hf : R[f]? = some l)
    (hb : kb = true → (o ++ cs_wF d (decide (R.length = 1)) l).length ≤ 96) (hE : cs_E kb o b5 a5)
    (H : ∀ a5', cs_E kb (o ++ cs_wF d (decide (R.length = 1)) l) b5 a5' → post (cn, dr, ra, nI (o ++ cs_wF d (decide (R.length = 1)) l).length, cs_b kb, st, gr, gf, gz, ff, rg, hl, fl, sd, a1, a2, a3, a4, a5')) :
    wpX_writeField post (cn, dr, ra, nI o.length, cs_b kb, st, gr, gf, gz, ff, rg, hl, fl, sd, a1, a2, a3, a4, a5) (nI r) (nI f) (nI d) := by
  have g1 := hT.1
  have g2 := cs_lt hR
  have gR := hT.2 R (cs_gm hR)
  have g3 := gR.2.1
  have g4 := cs_lt hf
  have hln := gR.2.2 l (cs_gm hf)
  have h9 := hc R (cs_gm hR) l (cs_gm hf)
  have h1 := (hr r R hR).1
  obtain ⟨h2, h3⟩ := (hr r R hR).2 f l hf
  have hk : r * 5 + f < 30 := by omega
  have he : a2 (nI (r * 5 + f)).toNatClampNeg = nI l.length := by rw [nI_clamp (by omega), h2]
  have he1 : a1 (nI r).toNatClampNeg = nI R.length := by rw [nI_clamp (by omega), h1]
  have w42 : ∀ q, cs_q d (decide (R.length = 1)) l = q → wX_writeField_42 post (nI d) (nI (r * 5 + f)) (cs_b q) cn dr ra (nI o.length) (cs_b kb) st gr gf gz ff rg hl fl sd a1 a2 a3 a4 a5 := by
    intro q e
    unfold cs_wF at H hb
    rw [e] at H hb
    exact cs_w42 hd hk h2 h3 hln h9 hb hE H
  refine nm_r (cs_e3 r f) ⟨l.length + 1, cs_wnq2 hd hk h2 h3 hln h9 l 0 rfl (Nat.zero_le _) ?_⟩
  cases hn : cs_nq d l with
  | true => exact br_f (by decide) (w42 true (by unfold cs_q; rw [hn, Bool.true_or]))
  | false =>
    refine br_t rfl ⟨pk_in (r * 5 + f) 30 hk, pk_eq l.length 0 (fun z => ⟨pk_in r 6 (by omega), pk_eq R.length 1 (fun v => ?_) (fun v => ?_) he1⟩) (fun z => ?_) he⟩
    · exact w42 true (by unfold cs_q; rw [hn, decide_eq_true z, decide_eq_true v]; rfl)
    · exact w42 false (by unfold cs_q; rw [hn, decide_eq_false v, Bool.and_false]; rfl)
    · exact w42 false (by unfold cs_q; rw [hn, decide_eq_false z, Bool.false_and]; rfl)
theorem cs_w23 {T : List (List (List Nat))} {R : List (List Nat)} {r : Nat} {J : Int32 → Int32 → Int32 → Int32 → Int32 → Int32 → Int32 → Int32 → Int32 → Int32 → Int32 → Int32 → Int32 → Int32 → Int32 → (Nat → Int32) → (Nat → Int32) → (Nat → Int32) → (Nat → Int32) → (Nat → Int32) → Prop}
    (hd : d < 8) (hT : cs_len T) (hc : cs_chr T) (hr : cs_rep T a1 a2 a3) (hR : T[r]? = some R) :
    ∀ (fs : List (List Nat)) (f : Nat) (o : List Nat) (a5 : Nat → Int32), R.drop f = fs → f ≤ R.length → (kb = true → (o ++ (cs_wG d (decide (R.length = 1)) (decide (f = 0)) fs ++ cs_eol d)).length ≤ 96) → cs_E kb o b5 a5 →
    (∀ a5', cs_E kb (o ++ (cs_wG d (decide (R.length = 1)) (decide (f = 0)) fs ++ cs_eol d)) b5 a5' → J (nI (r + 1)) cn dr ra (nI (o ++ (cs_wG d (decide (R.length = 1)) (decide (f = 0)) fs ++ cs_eol d)).length) (cs_b kb) st gr gf gz ff rg hl fl sd a1 a2 a3 a4 a5') →
    wX_writeAll_23 post J (nI d) (nI r) (fs.length + 1) (nI f) cn dr ra (nI o.length) (cs_b kb) st gr gf gz ff rg hl fl sd a1 a2 a3 a4 a5 := by
  have g1 := hT.1
  have g2 := cs_lt hR
  have gR := hT.2 R (cs_gm hR)
  have g3 := gR.2.1
  have h1 := (hr r R hR).1
  have he1 : a1 (nI r).toNatClampNeg = nI R.length := by rw [nI_clamp (by omega), h1]
  intro fs
  induction fs with
  | nil =>
    intro f o a5 e hf hb hE H
    have hln' : R.length ≤ f := List.drop_eq_nil_iff.mp e
    have w74 : ∀ o' a5', o ++ (cs_wG d (decide (R.length = 1)) (decide (f = 0)) [] ++ cs_eol d) = o' ++ [9] → cs_E kb o' b5 a5' → wX_writeAll_74 post J (nI d) (nI r) cn dr ra (nI o'.length) (cs_b kb) st gr gf gz ff rg hl fl sd a1 a2 a3 a4 a5' := by
      intro o' a5' eo hE'
      rw [eo] at H hb
      refine cs_wemit (c := 9) (fun w => ?_) hE' (fun a5'' hE'' => nm_r (nI_1 r) (H a5'' hE''))
      have := hb w
      simp only [List.length_append, List.length_singleton] at this
      omega
    refine ⟨pk_in r 6 (by omega), pk_le R.length f (fun _ => ek_if (cs_e2d d hd) (fun v => ?_) (fun v => ?_)) (fun z => absurd z (by omega)) he1⟩
    · have eo : o ++ (cs_wG d (decide (R.length = 1)) (decide (f = 0)) [] ++ cs_eol d) = (o ++ [8]) ++ [9] := by
        unfold cs_eol
        rw [if_pos v]
        simp [cs_wG]
      refine cs_wemit (c := 8) (fun w => ?_) hE (fun a5' hE' => w74 (o ++ [8]) a5' eo hE')
      rw [eo] at hb
      have := hb w
      simp only [List.length_append, List.length_singleton] at this
      omega
    · have eo : o ++ (cs_wG d (decide (R.length = 1)) (decide (f = 0)) [] ++ cs_eol d) = o ++ [9] := by
        unfold cs_eol
        rw [if_neg v]
        simp [cs_wG]
      exact w74 o a5 eo hE
  | cons l fs ih =>
    intro f o a5 e hf hb hE H
    obtain ⟨q1, q2⟩ := cs_drop e
    have hf' := cs_lt q1
    have w48 : ∀ o' a5', o ++ (cs_wG d (decide (R.length = 1)) (decide (f = 0)) (l :: fs) ++ cs_eol d) = (o' ++ cs_wF d (decide (R.length = 1)) l) ++ (cs_wG d (decide (R.length = 1)) false fs ++ cs_eol d) → cs_E kb o' b5 a5' →
        wX_writeAll_48 post J (wX_writeAll_23 post J (nI d) (nI r) (fs.length + 1)) (nI d) (nI r) (nI f) cn dr ra (nI o'.length) (cs_b kb) st gr gf gz ff rg hl fl sd a1 a2 a3 a4 a5' := by
      intro o' a5' eo hE'
      rw [eo, show false = decide (f + 1 = 0) from (decide_eq_false (by omega)).symm] at H hb
      refine cs_wwF hd hT hc hr hR q1 (fun w => ?_) hE' (fun a5'' hE'' => nm_r (nI_1 f) (ih (f + 1) (o' ++ cs_wF d (decide (R.length = 1)) l) a5'' q2 hf' hb hE'' H))
      have := hb w
      simp only [List.length_append] at this ⊢
      omega
    refine ⟨pk_in r 6 (by omega), pk_le R.length f (fun z => absurd z (by omega)) (fun _ => pk_le f 0 (fun v => ?_) (fun v => cs_wsep hd ?_)) he1⟩
    · have eo : o ++ (cs_wG d (decide (R.length = 1)) (decide (f = 0)) (l :: fs) ++ cs_eol d) = (o ++ cs_wF d (decide (R.length = 1)) l) ++ (cs_wG d (decide (R.length = 1)) false fs ++ cs_eol d) := by
        rw [decide_eq_true (show f = 0 by omega)]
        simp [cs_wG]
      exact w48 o a5 eo hE
    · have eo : o ++ (cs_wG d (decide (R.length = 1)) (decide (f = 0)) (l :: fs) ++ cs_eol d) = ((o ++ [cs_sep d]) ++ cs_wF d (decide (R.length = 1)) l) ++ (cs_wG d (decide (R.length = 1)) false fs ++ cs_eol d) := by
        rw [decide_eq_false (show ¬ f = 0 by omega)]
        simp [cs_wG]
      refine cs_wemit (c := cs_sep d) (fun w => ?_) hE (fun a5' hE' => w48 (o ++ [cs_sep d]) a5' eo hE')
      rw [eo] at hb
      have := hb w
      simp only [List.length_append, List.length_singleton] at this
      omega
theorem cs_w12 {T : List (List (List Nat))} (hd : d < 8) (hT : cs_len T) (hc : cs_chr T) (hr : cs_rep T a1 a2 a3) :
    ∀ (Rs : List (List (List Nat))) (r : Nat) (o : List Nat) (a5 : Nat → Int32), T.drop r = Rs → r ≤ T.length → (kb = true → (o ++ cs_wr d Rs).length ≤ 96) → cs_E kb o b5 a5 →
    (∀ a5', cs_E kb (o ++ cs_wr d Rs) b5 a5' → post (nI T.length, dr, ra, nI (o ++ cs_wr d Rs).length, cs_b kb, st, gr, gf, gz, ff, rg, hl, fl, sd, a1, a2, a3, a4, a5')) →
    wX_writeAll_12 post (nI d) (Rs.length + 1) (nI r) (nI T.length) dr ra (nI o.length) (cs_b kb) st gr gf gz ff rg hl fl sd a1 a2 a3 a4 a5 := by
  have g1 := hT.1
  intro Rs
  induction Rs with
  | nil =>
    intro r o a5 e hi hb hE H
    have hln' : T.length ≤ r := List.drop_eq_nil_iff.mp e
    have eo : o ++ cs_wr d [] = o := List.append_nil o
    rw [eo] at H
    exact pk_le T.length r (fun _ => H a5 hE) (fun z => absurd z (by omega))
  | cons R Rs ih =>
    intro r o a5 e hi hb hE H
    obtain ⟨q1, q2⟩ := cs_drop e
    have hr' := cs_lt q1
    have eo : o ++ cs_wr d (R :: Rs) = (o ++ cs_wR d R) ++ cs_wr d Rs := by
      unfold cs_wr
      rw [List.flatMap_cons, List.append_assoc]
    rw [eo] at H hb
    refine pk_le T.length r (fun z => absurd z (by omega)) (fun _ => ⟨R.length + 1, ?_⟩)
    refine cs_w23 hd hT hc hr q1 R 0 o a5 rfl (Nat.zero_le _) (fun w => ?_) hE (fun a5' hE' => ih (r + 1) (o ++ cs_wR d R) a5' q2 hr' hb hE' H)
    have := hb w
    rw [List.length_append] at this
    show (o ++ cs_wR d R).length ≤ 96
    omega
theorem cs_wwA {T : List (List (List Nat))} (hd : d < 8) (hT : cs_len T) (hc : cs_chr T) (hr : cs_rep T a1 a2 a3) (hb : kb = true → (cs_wr d T).length ≤ 96)
    (H : ∀ a5', cs_E kb (cs_wr d T) a5 a5' → post (nI T.length, dr, ra, nI (cs_wr d T).length, cs_b kb, st, gr, gf, gz, ff, rg, hl, fl, sd, a1, a2, a3, a4, a5')) :
    wpX_writeAll post (nI T.length, dr, ra, pt, kp, st, gr, gf, gz, ff, rg, hl, fl, sd, a1, a2, a3, a4, a5) (nI d) (cs_b kb) := by
  refine ⟨?_, ?_, T.length + 1, ?_⟩
  · cases kb <;> rfl
  · cases kb <;> rfl
  · exact cs_w12 hd hT hc hr T 0 [] a5 rfl (Nat.zero_le _) hb ⟨fun _ => rfl, fun _ i c h => absurd (show some c = none from h.symm) (Option.some_ne_none c)⟩ H
end
theorem cs_wF_len {d : Nat} {so : Bool} {l : List Nat} (h : l.length ≤ 6) : (cs_wF d so l).length ≤ 14 := by
  have hq : ∀ q, (cs_qs q).length ≤ 1 := by intro q; cases q <;> simp [cs_qs]
  have he : ∀ m : List Nat, (m.flatMap (cs_esc d)).length ≤ 2 * m.length := by
    intro m
    induction m with
    | nil => exact Nat.le_refl _
    | cons c m ih =>
      have : (cs_esc d c).length ≤ 2 := by
        unfold cs_esc
        split <;> simp
      rw [List.flatMap_cons, List.length_append, List.length_cons]
      omega
  have h1 := hq (cs_q d so l)
  have h2 := he l
  unfold cs_wF
  simp only [List.length_append]
  omega
theorem cs_wr_len {d : Nat} {T : List (List (List Nat))} (h : cs_len T) : (cs_wr d T).length ≤ 462 := by
  have hG : ∀ (so : Bool) (fs : List (List Nat)) (fi : Bool), (∀ l ∈ fs, l.length ≤ 6) → (cs_wG d so fi fs).length ≤ 15 * fs.length := by
    intro so fs
    induction fs with
    | nil => intro fi _; simp [cs_wG]
    | cons l fs ih =>
      intro fi hln
      have h1 := cs_wF_len (d := d) (so := so) (hln l (List.mem_cons_self ..))
      have h2 := ih false (fun a ha => hln a (List.mem_cons_of_mem _ ha))
      have h3 : (cond fi [] [cs_sep d]).length ≤ 1 := by cases fi <;> simp
      have e : cs_wG d so fi (l :: fs) = cond fi [] [cs_sep d] ++ (cs_wF d so l ++ cs_wG d so false fs) := by simp [cs_wG]
      rw [e, List.length_append, List.length_append, List.length_cons]
      omega
  have hR : ∀ R, cs_lenR R → (cs_wR d R).length ≤ 77 := by
    intro R hR
    have h1 := hG (decide (R.length = 1)) R true hR.2.2
    have h2 := hR.2.1
    have h3 : (cs_eol d).length ≤ 2 := by
      unfold cs_eol
      split <;> simp
    unfold cs_wR
    rw [List.length_append]
    omega
  have hT : ∀ T : List (List (List Nat)), (∀ R ∈ T, cs_lenR R) → (cs_wr d T).length ≤ 77 * T.length := by
    intro T
    induction T with
    | nil => intro _; exact Nat.le_refl _
    | cons R T ih =>
      intro hT
      have h1 := hR R (hT R (List.mem_cons_self ..))
      have h2 := ih (fun a ha => hT a (List.mem_cons_of_mem _ ha))
      have e : cs_wr d (R :: T) = cs_wR d R ++ cs_wr d T := List.flatMap_cons ..
      rw [e, List.length_append, List.length_cons]
      omega
  have h1 := hT T h.2
  have h2 := h.1
  omega
section
variable {T : List (List (List Nat))} {X D : List Nat} {s : St1} {d : Nat} {post : Int32 → St1 → Prop}
theorem cs_wwritten (w : cs_W T X D) (hs : cs_R T X D s) (hd : d < 8) (H : ∀ s', cs_R T X D s' → post (nI (cs_wr d T).length) s') : wpX_written post s (nI d) := by
  obtain ⟨cn, dr, ra, pt, kp, st, gr, gf, gz, ff, rg, hl, fl, sd, a1, a2, a3, a4, a5⟩ := s
  obtain ⟨rfl, rfl, rfl, h1, h2, h3⟩ := hs
  refine pk_lt d 0 (fun z => absurd z (by omega)) (fun _ => pk_le d 7 (fun _ => br_t rfl ?_) (fun z => absurd z (by omega)))
  refine cs_wwA (kb := false) hd w.1 w.2.1 h1 (fun q => absurd q (by decide)) (fun a5' hE => ?_)
  obtain rfl := hE.1 rfl
  exact H _ ⟨rfl, rfl, rfl, h1, h2, h3⟩
theorem cs_wwrite (w : cs_W T X D) (hs : cs_R T X D s) (hd : d < 8) (H2 : 96 < (cs_wr d T).length → ∀ s', cs_R T X D s' → post (-2) s') (H0 : (cs_wr d T).length ≤ 96 → ∀ s', cs_R T (cs_wr d T) D s' → post (nI (cs_wr d T).length) s') : wpX_write post s (nI d) := by
  have hln := cs_wr_len (d := d) w.1
  obtain ⟨cn, dr, ra, pt, kp, st, gr, gf, gz, ff, rg, hl, fl, sd, a1, a2, a3, a4, a5⟩ := s
  obtain ⟨rfl, rfl, rfl, h1, h2, h3⟩ := hs
  refine pk_lt d 0 (fun z => absurd z (by omega)) (fun _ => pk_le d 7 (fun _ => br_t rfl ?_) (fun z => absurd z (by omega)))
  refine cs_wwA (kb := false) hd w.1 w.2.1 h1 (fun q => absurd q (by decide)) (fun a5' hE => ?_)
  obtain rfl := hE.1 rfl
  refine pk_le (cs_wr d T).length 96 (fun z => ?_) (fun z => H2 z _ ⟨rfl, rfl, rfl, h1, h2, h3⟩)
  refine cs_wwA (kb := true) hd w.1 w.2.1 h1 (fun _ => z) (fun a5' hE => ?_)
  exact H0 z _ ⟨rfl, rfl, rfl, h1, h2, hE.2 rfl⟩
end
end
section
/-! the table's walk -/
theorem cs_e5 (r : Nat) : nI r * 5 = nI (r * 5 + 0) := pk_mul r 5
theorem cs_lst_add {o : List Nat} {a : Nat → Int32} {c : Nat} (h : cs_lst o a) : cs_lst (o ++ [c]) (upd a o.length (nI c)) := by
  intro i b hb
  rcases cs_gl hb with ⟨g, g'⟩ | ⟨g, g'⟩
  · rw [pk_un (by omega)]
    exact h i b g'
  · rw [g, g', pk_us]
theorem cs_lst_nil {a : Nat → Int32} : cs_lst [] a := fun _ c h => absurd (show some c = none from h.symm) (Option.some_ne_none c)
section
variable {cn dr ra pt kp st gr gf gz ff rg hl fl sd : Int32} {a1 a2 a3 a4 a5 : Nat → Int32} {post : St1 → Prop} {D : List Nat} {k : Nat}
theorem cs_wplace2 (hk : k < 30) (h4 : cs_lst D a4) (hD : D.length ≤ 6)
    (H : ∀ a3', (∀ (i c : Nat), D[i]? = some c → a3' (k * 6 + i) = nI c) → (∀ (k' i : Nat), k' ≠ k → i < 6 → a3' (k' * 6 + i) = a3 (k' * 6 + i)) → post (cn, 0, ra, pt, kp, st, gr, gf, gz, ff, rg, hl, fl, sd, a1, upd a2 k (nI D.length), a3', a4, a5)) :
    ∀ (rest : List Nat) (i : Nat) (a3' : Nat → Int32), D.drop i = rest → i ≤ D.length → (∀ (j c : Nat), j < i → D[j]? = some c → a3' (k * 6 + j) = nI c) → (∀ (k' j : Nat), k' ≠ k → j < 6 → a3' (k' * 6 + j) = a3 (k' * 6 + j)) →
    wX_place_2 post (nI k) cn (nI D.length) ra pt kp st gr gf gz ff rg hl fl sd (rest.length + 1) (nI i) a1 a2 a3' a4 a5 := by
  intro rest
  induction rest with
  | nil =>
    intro i a3' e hi h1 h2
    have hln : D.length ≤ i := List.drop_eq_nil_iff.mp e
    exact pk_le D.length i (fun _ => ⟨pk_in k 30 hk, nm_r (cs_cl rfl (by omega)) (H a3' (fun j c h => h1 j c (by have := cs_lt h; omega) h) h2)⟩) (fun z => absurd z (by omega))
  | cons c rest ih =>
    intro i a3' e hi h1 h2
    obtain ⟨g1, g2⟩ := cs_drop e
    have hi' := cs_lt g1
    have e3 : upd a3' (nI k * 6 + nI i).toNatClampNeg (a4 (nI i).toNatClampNeg) = upd a3' (k * 6 + i) (nI c) := by
      rw [cs_e4, nI_clamp (show k * 6 + i < 2 ^ 31 by omega), nI_clamp (show i < 2 ^ 31 by omega), h4 i c g1]
    refine pk_le D.length i (fun z => absurd z (by omega)) (fun _ => ⟨pk_in i 6 (by omega), pk_in (k * 6 + i) 180 (by omega) (cs_e4 k i), nm_r e3 (nm_r (nI_1 i) (ih (i + 1) (upd a3' (k * 6 + i) (nI c)) g2 hi' (fun j b hj hb => ?_) (fun k' j hk' hj => ?_)))⟩)
    · by_cases ej : j = i
      · subst ej
        rw [g1] at hb
        have hb' : c = b := Option.some.inj hb
        rw [pk_us, hb']
      · rw [pk_un (by omega)]
        exact h1 j b (by omega) hb
    · rw [pk_un (by omega)]
      exact h2 k' j hk' hj
theorem cs_wplace (hk : k < 30) (h4 : cs_lst D a4) (hD : D.length ≤ 6)
    (H : ∀ a3', (∀ (i c : Nat), D[i]? = some c → a3' (k * 6 + i) = nI c) → (∀ (k' i : Nat), k' ≠ k → i < 6 → a3' (k' * 6 + i) = a3 (k' * 6 + i)) → post (cn, 0, ra, pt, kp, st, gr, gf, gz, ff, rg, hl, fl, sd, a1, upd a2 k (nI D.length), a3', a4, a5)) :
    wpX_place post (cn, nI D.length, ra, pt, kp, st, gr, gf, gz, ff, rg, hl, fl, sd, a1, a2, a3, a4, a5) (nI k) :=
  ⟨D.length + 1, cs_wplace2 hk h4 hD H D 0 a3 rfl (Nat.zero_le _) (fun j c h => absurd h (Nat.not_lt_zero j)) (fun _ _ _ _ => rfl)⟩
theorem cs_wnoF {post : Int32 → Prop} {T : List (List (List Nat))} {r f : Nat} (hT : cs_len T) (hr : cs_rep T a1 a2 a3) (hr9 : r ≤ 900) (hf9 : f ≤ 900)
    (H1 : (∀ (R : List (List Nat)) (l : List Nat), T[r]? = some R → R[f]? = some l → False) → post 1) (H0 : ∀ (R : List (List Nat)) (l : List Nat), T[r]? = some R → R[f]? = some l → post 0) :
    wpX_noField post (nI T.length, dr, ra, pt, kp, st, gr, gf, gz, ff, rg, hl, fl, sd, a1, a2, a3, a4, a5) (nI r) (nI f) := by
  have g := hT.1
  refine pk_lt r 0 (fun z => absurd z (by omega)) (fun _ => pk_le T.length r (fun z => H1 (fun R l h _ => absurd (cs_lt h) (by omega))) (fun z => pk_lt f 0 (fun z => absurd z (by omega)) (fun _ => ⟨pk_in r 6 (by omega), ?_⟩)))
  have hR : T[r]? = some T[r] := List.getElem?_eq_getElem z
  have h1 := (hr r _ hR).1
  have h5 := (hT.2 _ (cs_gm hR)).2.1
  have he : a1 (nI r).toNatClampNeg = nI T[r].length := by rw [nI_clamp (by omega), h1]
  refine pk_lt f T[r].length (fun w => H0 _ _ hR (List.getElem?_eq_getElem w)) (fun w => H1 (fun R l h h' => ?_)) rfl he
  rw [hR] at h
  have h' := cs_lt h'
  rw [← Option.some.inj h] at h'
  omega
end
/-! one call, whatever the state that matches -/
def cs_N (T : List (List (List Nat))) (X D : List Nat) (W : (Int32 → St1 → Prop) → St1 → Prop) : Prop :=
  ∃ T' X' D', cs_W T' X' D' ∧ ∀ post s, cs_R T X D s → (∀ r s', cs_R T' X' D' s' → post r s') → W post s
section
variable {T : List (List (List Nat))} {X D : List Nat} {c d r f : Nat}
theorem cs_Ndraft (w : cs_W T X D) (hc : c ≤ 9) : cs_N T X D (fun post s => wpX_draft post s (nI c)) := by
  have hD := w.2.2.2.2.1
  by_cases e : D.length = 6
  · refine ⟨T, X, D, w, fun post s hs H => ?_⟩
    obtain ⟨cn, dr, ra, pt, kp, st, gr, gf, gz, ff, rg, hl, fl, sd, a1, a2, a3, a4, a5⟩ := s
    obtain ⟨rfl, rfl, rfl, h1, h2, h3⟩ := hs
    exact pk_lt c 0 (fun z => absurd z (by omega)) (fun _ => pk_le c 9 (fun _ => pk_eq D.length 6 (fun _ => H _ _ ⟨rfl, rfl, rfl, h1, h2, h3⟩) (fun z => absurd e z)) (fun z => absurd z (by omega)))
  · refine ⟨T, X, D ++ [c], ⟨w.1, w.2.1, w.2.2.1, w.2.2.2.1, by rw [List.length_append, List.length_singleton]; omega, cs_app w.2.2.2.2.2 hc⟩, fun post s hs H => ?_⟩
    obtain ⟨cn, dr, ra, pt, kp, st, gr, gf, gz, ff, rg, hl, fl, sd, a1, a2, a3, a4, a5⟩ := s
    obtain ⟨rfl, rfl, rfl, h1, h2, h3⟩ := hs
    refine pk_lt c 0 (fun z => absurd z (by omega)) (fun _ => pk_le c 9 (fun _ => pk_eq D.length 6 (fun z => absurd z e) (fun z => ⟨pk_in D.length 6 (by omega), nm_r (cs_cl rfl (by omega)) (nm_r (nI_1 _) (H _ _ ⟨rfl, ?_, rfl, h1, cs_lst_add h2, h3⟩))⟩)) (fun z => absurd z (by omega)))
    rw [List.length_append, List.length_singleton]
theorem cs_Nraw (w : cs_W T X D) (hc : c ≤ 10) : cs_N T X D (fun post s => wpX_raw post s (nI c)) := by
  have hX := w.2.2.1
  by_cases e : X.length = 96
  · refine ⟨T, X, D, w, fun post s hs H => ?_⟩
    obtain ⟨cn, dr, ra, pt, kp, st, gr, gf, gz, ff, rg, hl, fl, sd, a1, a2, a3, a4, a5⟩ := s
    obtain ⟨rfl, rfl, rfl, h1, h2, h3⟩ := hs
    exact pk_lt c 0 (fun z => absurd z (by omega)) (fun _ => pk_le c 10 (fun _ => pk_eq X.length 96 (fun _ => H _ _ ⟨rfl, rfl, rfl, h1, h2, h3⟩) (fun z => absurd e z)) (fun z => absurd z (by omega)))
  · refine ⟨T, X ++ [c], D, ⟨w.1, w.2.1, by rw [List.length_append, List.length_singleton]; omega, cs_app w.2.2.2.1 hc, w.2.2.2.2⟩, fun post s hs H => ?_⟩
    obtain ⟨cn, dr, ra, pt, kp, st, gr, gf, gz, ff, rg, hl, fl, sd, a1, a2, a3, a4, a5⟩ := s
    obtain ⟨rfl, rfl, rfl, h1, h2, h3⟩ := hs
    refine pk_lt c 0 (fun z => absurd z (by omega)) (fun _ => pk_le c 10 (fun _ => pk_eq X.length 96 (fun z => absurd z e) (fun z => ⟨pk_in X.length 96 (by omega), nm_r (cs_cl rfl (by omega)) (nm_r (nI_1 _) (H _ _ ⟨rfl, rfl, ?_, h1, h2, cs_lst_add h3⟩))⟩)) (fun z => absurd z (by omega)))
    rw [List.length_append, List.length_singleton]
theorem cs_Nunraw (w : cs_W T X D) : cs_N T X D (fun post s => wpX_unraw post s) := by
  have hX := w.2.2.1
  by_cases e : X = []
  · refine ⟨T, X, D, w, fun post s hs H => ?_⟩
    obtain ⟨cn, dr, ra, pt, kp, st, gr, gf, gz, ff, rg, hl, fl, sd, a1, a2, a3, a4, a5⟩ := s
    obtain ⟨rfl, rfl, rfl, h1, h2, h3⟩ := hs
    exact pk_eq X.length 0 (fun _ => H _ _ ⟨rfl, rfl, rfl, h1, h2, h3⟩) (fun z => absurd (by rw [e]; rfl) z)
  · obtain ⟨Y, y, rfl⟩ : ∃ Y y, X = Y ++ [y] := ⟨_, _, (List.dropLast_concat_getLast e).symm⟩
    have hln : (Y ++ [y]).length = Y.length + 1 := by rw [List.length_append, List.length_singleton]
    refine ⟨T, Y, D, ⟨w.1, w.2.1, by omega, fun a ha => w.2.2.2.1 a (List.mem_append_left _ ha), w.2.2.2.2⟩, fun post s hs H => ?_⟩
    obtain ⟨cn, dr, ra, pt, kp, st, gr, gf, gz, ff, rg, hl, fl, sd, a1, a2, a3, a4, a5⟩ := s
    obtain ⟨rfl, rfl, rfl, h1, h2, h3⟩ := hs
    exact pk_eq (Y ++ [y]).length 0 (fun z => absurd z (by omega)) (fun z => nm_r (by rw [hln]; exact nI_pred _) ⟨pk_in Y.length 96 (by omega), H _ _ ⟨rfl, rfl, rfl, h1, h2, fun i a h => h3 i a (cs_gk h)⟩⟩)
theorem cs_NaddRow (w : cs_W T X D) : cs_N T X D (fun post s => wpX_addRow post s) := by
  have hT := w.1.1
  by_cases e : T.length = 6
  · refine ⟨T, X, D, w, fun post s hs H => ?_⟩
    obtain ⟨cn, dr, ra, pt, kp, st, gr, gf, gz, ff, rg, hl, fl, sd, a1, a2, a3, a4, a5⟩ := s
    obtain ⟨rfl, rfl, rfl, h1, h2, h3⟩ := hs
    exact pk_eq T.length 6 (fun _ => H _ _ ⟨rfl, rfl, rfl, h1, h2, h3⟩) (fun z => absurd e z)
  · have h5 : cs_len (T ++ [[] ++ [D]]) := cs_len_iff.mpr ⟨⟨by omega, w.1.2⟩, Nat.zero_le _, fun m hm => absurd hm List.not_mem_nil, w.2.2.2.2.1⟩
    refine ⟨T ++ [[] ++ [D]], X, [], ⟨h5, cs_chr_iff.mpr ⟨w.2.1, fun m hm => absurd hm List.not_mem_nil, w.2.2.2.2.2⟩, w.2.2.1, w.2.2.2.1, Nat.zero_le _, fun a ha => absurd ha List.not_mem_nil⟩, fun post s hs H => ?_⟩
    obtain ⟨cn, dr, ra, pt, kp, st, gr, gf, gz, ff, rg, hl, fl, sd, a1, a2, a3, a4, a5⟩ := s
    obtain ⟨rfl, rfl, rfl, h1, h2, h3⟩ := hs
    refine pk_eq T.length 6 (fun z => absurd z e) (fun z => ⟨pk_in T.length 6 (by omega), nm_r (cs_cl rfl (by omega)) ?_⟩)
    rw [cs_e5]
    refine cs_wplace (by omega) h2 w.2.2.2.2.1 (fun a3' q1 q2 => nm_r (nI_1 _) (H _ _ ⟨?_, rfl, rfl, ?_, cs_lst_nil, h3⟩))
    · rw [List.length_append, List.length_singleton]
    · exact cs_rep_last h1 h5 (fun _ _ h => h) (fun f m h => absurd (show some m = none from h.symm) (Option.some_ne_none m)) pk_us (fun r hr => pk_un hr) pk_us (fun k hk => pk_un hk) q1 q2
theorem cs_Nfield (w : cs_W T X D) : cs_N T X D (fun post s => wpX_field post s) := by
  have hT := w.1.1
  by_cases e : T = []
  · refine ⟨T, X, D, w, fun post s hs H => ?_⟩
    obtain ⟨cn, dr, ra, pt, kp, st, gr, gf, gz, ff, rg, hl, fl, sd, a1, a2, a3, a4, a5⟩ := s
    obtain ⟨rfl, rfl, rfl, h1, h2, h3⟩ := hs
    exact pk_eq T.length 0 (fun _ => H _ _ ⟨rfl, rfl, rfl, h1, h2, h3⟩) (fun z => absurd (by rw [e]; rfl) z)
  · obtain ⟨t, u, rfl⟩ : ∃ t u, T = t ++ [u] := ⟨_, _, (List.dropLast_concat_getLast e).symm⟩
    have hln : (t ++ [u]).length = t.length + 1 := by rw [List.length_append, List.length_singleton]
    have hR := w.1.2 u (List.mem_append_right _ (List.mem_singleton.mpr rfl))
    have hu := hR.2.1
    have eC : nI (t ++ [u]).length - 1 = nI t.length := by rw [hln]; exact nI_pred _
    by_cases e5 : u.length = 5
    · refine ⟨t ++ [u], X, D, w, fun post s hs H => ?_⟩
      obtain ⟨cn, dr, ra, pt, kp, st, gr, gf, gz, ff, rg, hl, fl, sd, a1, a2, a3, a4, a5⟩ := s
      obtain ⟨rfl, rfl, rfl, h1, h2, h3⟩ := hs
      have g := (h1 t.length u (cs_gr t u)).1
      have he : a1 (nI t.length).toNatClampNeg = nI u.length := by rw [nI_clamp (by omega), g]
      exact pk_eq (t ++ [u]).length 0 (fun z => absurd z (by omega)) (fun z => nm_r eC ⟨pk_in t.length 6 (by omega), pk_eq u.length 5 (fun _ => H _ _ ⟨rfl, rfl, rfl, h1, h2, h3⟩) (fun z => absurd e5 z) he⟩)
    · have h5 : cs_len (t ++ [u ++ [D]]) := cs_len_iff.mpr ⟨⟨by omega, fun R h => w.1.2 R (List.mem_append_left _ h)⟩, by omega, hR.2.2, w.2.2.2.2.1⟩
      have hC : cs_chr (t ++ [u ++ [D]]) := cs_chr_iff.mpr ⟨fun R h => w.2.1 R (List.mem_append_left _ h), w.2.1 u (List.mem_append_right _ (List.mem_singleton.mpr rfl)), w.2.2.2.2.2⟩
      refine ⟨t ++ [u ++ [D]], X, [], ⟨h5, hC, w.2.2.1, w.2.2.2.1, Nat.zero_le _, fun a ha => absurd ha List.not_mem_nil⟩, fun post s hs H => ?_⟩
      obtain ⟨cn, dr, ra, pt, kp, st, gr, gf, gz, ff, rg, hl, fl, sd, a1, a2, a3, a4, a5⟩ := s
      obtain ⟨rfl, rfl, rfl, h1, h2, h3⟩ := hs
      have g := (h1 t.length u (cs_gr t u)).1
      have he : a1 (nI t.length).toNatClampNeg = nI u.length := by rw [nI_clamp (by omega), g]
      have hi : vp_in (nI t.length) 6 := pk_in t.length 6 (by omega)
      refine pk_eq (t ++ [u]).length 0 (fun z => absurd z (by omega)) (fun z => nm_r eC ⟨hi, pk_eq u.length 5 (fun z => absurd z e5) (fun _ => ⟨hi, ?_⟩) he⟩)
      rw [he, cs_e3]
      refine cs_wplace (by omega) h2 w.2.2.2.2.1 (fun a3' q1 q2 => ⟨hi, hi, nm_r (by rw [he, nI_1, nI_clamp (show t.length < 2 ^ 31 by omega)]) ⟨hi, H _ _ ⟨?_, rfl, rfl, cs_rep_last h1 h5 (fun _ _ h => cs_gk h) (fun f m h => ⟨u, cs_gr t u, h⟩) pk_us (fun r hr => pk_un hr) pk_us (fun k hk => pk_un hk) q1 q2, cs_lst_nil, h3⟩⟩⟩)
      rw [List.length_append, List.length_append]
      rfl
theorem cs_Nput (w : cs_W T X D) (hr9 : r ≤ 900) (hf9 : f ≤ 900) : cs_N T X D (fun post s => wpX_put post s (nI r) (nI f)) := by
  have hT := w.1.1
  by_cases e : ∃ R l, T[r]? = some R ∧ R[f]? = some l
  · obtain ⟨R, l, eR, el⟩ := e
    have g1 := cs_lt eR
    have g2 := cs_lt el
    have hR := w.1.2 R (cs_gm eR)
    have hR5 := hR.2.1
    have eR' : (T.set r (R.set f D))[r]? = some (R.set f D) := List.getElem?_set_self g1
    have el' : (R.set f D)[f]? = some D := List.getElem?_set_self g2
    have hm : ∀ m, m ∈ R.set f D → m ∈ R ∨ m = D := fun m h => List.mem_or_eq_of_mem_set h
    have hM : ∀ Q, Q ∈ T.set r (R.set f D) → Q ∈ T ∨ Q = R.set f D := fun m h => List.mem_or_eq_of_mem_set h
    have h5 : cs_len (T.set r (R.set f D)) := by
      refine ⟨by rw [List.length_set]; exact hT, fun Q hQ => ?_⟩
      rcases hM Q hQ with q | q
      · exact w.1.2 Q q
      · rw [q]
        refine ⟨by rw [List.length_set]; exact hR.1, by rw [List.length_set]; exact hR.2.1, fun m h => ?_⟩
        rcases hm m h with q | q
        · exact hR.2.2 m q
        · rw [q]
          exact w.2.2.2.2.1
    have hC : cs_chr (T.set r (R.set f D)) := by
      intro Q hQ
      rcases hM Q hQ with q | q
      · exact w.2.1 Q q
      · rw [q]
        intro m h
        rcases hm m h with q | q
        · exact w.2.1 R (cs_gm eR) m q
        · rw [q]
          exact w.2.2.2.2.2
    refine ⟨T.set r (R.set f D), X, [], ⟨h5, hC, w.2.2.1, w.2.2.2.1, Nat.zero_le _, fun a ha => absurd ha List.not_mem_nil⟩, fun post s hs H => ?_⟩
    obtain ⟨cn, dr, ra, pt, kp, st, gr, gf, gz, ff, rg, hl, fl, sd, a1, a2, a3, a4, a5⟩ := s
    obtain ⟨rfl, rfl, rfl, h1, h2, h3⟩ := hs
    show wpX_put _ _ _ _
    unfold wpX_put
    dsimp only
    refine cs_wnoF w.1 h1 hr9 hf9 (fun q => absurd el (fun z => q R l eR z)) (fun _ _ _ _ => br_t rfl ?_)
    rw [cs_e3]
    refine cs_wplace (by omega) h2 w.2.2.2.2.1 (fun a3' q1 q2 => H _ _ ⟨?_, rfl, rfl, ?_, cs_lst_nil, h3⟩)
    · rw [List.length_set]
    · refine cs_rep_put h1 h5 eR' el' (fun r' Q hne h => ?_) (fun f' m hne h => ⟨R, eR, ?_⟩) ?_ (fun _ _ => rfl) pk_us (fun k hk => pk_un hk) q1 q2
      · rw [List.getElem?_set_ne (fun z => hne z.symm)] at h
        exact h
      · rw [List.getElem?_set_ne (fun z => hne z.symm)] at h
        exact h
      · rw [List.length_set]
        exact (h1 r R eR).1
  · refine ⟨T, X, D, w, fun post s hs H => ?_⟩
    obtain ⟨cn, dr, ra, pt, kp, st, gr, gf, gz, ff, rg, hl, fl, sd, a1, a2, a3, a4, a5⟩ := s
    obtain ⟨rfl, rfl, rfl, h1, h2, h3⟩ := hs
    show wpX_put _ _ _ _
    unfold wpX_put
    dsimp only
    exact cs_wnoF w.1 h1 hr9 hf9 (fun _ => br_f (by decide) (H _ _ ⟨rfl, rfl, rfl, h1, h2, h3⟩)) (fun R l q q' => absurd ⟨R, l, q, q'⟩ e)
theorem cs_Nwrite (w : cs_W T X D) (hd : d < 8) : cs_N T X D (fun post s => wpX_write post s (nI d)) := by
  by_cases e : (cs_wr d T).length ≤ 96
  · exact ⟨T, cs_wr d T, D, ⟨w.1, w.2.1, e, cs_wr_le w.2.1, w.2.2.2.2⟩, fun post s hs H => cs_wwrite w hs hd (fun z => absurd z (by omega)) (fun _ s' hs' => H _ _ hs')⟩
  · exact ⟨T, X, D, w, fun post s hs H => cs_wwrite w hs hd (fun _ s' hs' => H _ _ hs') (fun z => absurd z e)⟩
theorem cs_Nread (w : cs_W T X D) (hd : d < 8) : cs_N T X D (fun post s => wpX_read post s (nI d)) := by
  by_cases z : (cs_run d X).1 = 0
  · rcases Bool.eq_false_or_eq_true (cs_run d X).2.2.2.2 with hh | hh
    · have ok := cs_ok_run (d := d) w.2.2.2.1
      have g1 := ok.2.2.2.2.1 hh
      have g2 := ok.2.2.2.2.2 (by omega)
      rw [cs_tab_0 z] at g1 g2
      exact ⟨(cs_run d X).2.1, X, D, ⟨g1, g2, w.2.2⟩, fun post s hs H => cs_wrd w hs hd (fun q => absurd z q) (fun _ q => absurd (hh.symm.trans q) (by decide)) (fun _ _ s' hs' => H _ _ hs')⟩
    · exact ⟨T, X, D, w, fun post s hs H => cs_wrd w hs hd (fun q => absurd z q) (fun _ _ s' hs' => H _ _ hs') (fun _ q => absurd (hh.symm.trans q) (by decide))⟩
  · exact ⟨T, X, D, w, fun post s hs H => cs_wrd w hs hd (fun _ s' hs' => H _ _ hs') (fun q => absurd q z) (fun q => absurd q z)⟩
end
end
section
section
variable {T : List (List (List Nat))} {X D : List Nat} {c d o r f : Nat} {p2 : Int32}
theorem cs_w30 (w : cs_W T X D) (ho : o < 32) (hc : c ≤ 10) : ∃ T' X' D', cs_W T' X' D' ∧ ∀ (post : Int32 → St1 → Prop) (cn dr ra pt kp st gr gf gz ff rg hl fl sd : Int32) (a1 a2 a3 a4 a5 : Nat → Int32), cs_R T X D (cn, dr, ra, pt, kp, st, gr, gf, gz, ff, rg, hl, fl, sd, a1, a2, a3, a4, a5) → (∀ r s', cs_R T' X' D' s' → post r s') → wL_turn_30 post p2 (nI o) (nI c) cn dr ra pt kp st gr gf gz ff rg hl fl sd a1 a2 a3 a4 a5 := by
  obtain ⟨d, hd, ed⟩ := pk_andE p2 (m := 7) 3 (by decide)
  obtain ⟨r, hr, er⟩ := pk_andE p2 (m := 3) 2 (by decide)
  obtain ⟨f, hf, ef⟩ := pk_andE (p2 >>> ((2 : Int32) &&& 31)) (m := 3) 2 (by decide)
  by_cases o8 : o < 8
  · by_cases c10 : c = 10
    · obtain ⟨T', X', D', w', h'⟩ := cs_Ndraft w (c := 0) (by omega)
      refine ⟨T', X', D', w', fun post cn dr ra pt kp st gr gf gz ff rg hl fl sd a1 a2 a3 a4 a5 hs H => ?_⟩
      refine pk_le 8 o (fun z => absurd z (by omega)) (fun _ => pk_eq c 10 (fun _ => ?_) (fun z => absurd c10 z))
      exact h' _ _ hs (fun r s' hs' => by obtain ⟨cn, dr, ra, pt, kp, st, gr, gf, gz, ff, rg, hl, fl, sd, a1, a2, a3, a4, a5⟩ := s'; exact H _ _ hs')
    · obtain ⟨T', X', D', w', h'⟩ := cs_Ndraft w (c := c) (by omega)
      refine ⟨T', X', D', w', fun post cn dr ra pt kp st gr gf gz ff rg hl fl sd a1 a2 a3 a4 a5 hs H => ?_⟩
      refine pk_le 8 o (fun z => absurd z (by omega)) (fun _ => pk_eq c 10 (fun z => absurd z c10) (fun _ => ?_))
      exact h' _ _ hs (fun r s' hs' => by obtain ⟨cn, dr, ra, pt, kp, st, gr, gf, gz, ff, rg, hl, fl, sd, a1, a2, a3, a4, a5⟩ := s'; exact H _ _ hs')
  · by_cases o11 : o < 11
    · obtain ⟨T', X', D', w', h'⟩ := cs_NaddRow w
      refine ⟨T', X', D', w', fun post cn dr ra pt kp st gr gf gz ff rg hl fl sd a1 a2 a3 a4 a5 hs H => ?_⟩
      refine pk_le 8 o (fun _ => pk_le 11 o (fun z => absurd z (by omega)) (fun _ => ?_)) (fun z => absurd z (by omega))
      exact h' _ _ hs (fun r s' hs' => by obtain ⟨cn, dr, ra, pt, kp, st, gr, gf, gz, ff, rg, hl, fl, sd, a1, a2, a3, a4, a5⟩ := s'; exact H _ _ hs')
    · by_cases o16 : o < 16
      · obtain ⟨T', X', D', w', h'⟩ := cs_Nfield w
        refine ⟨T', X', D', w', fun post cn dr ra pt kp st gr gf gz ff rg hl fl sd a1 a2 a3 a4 a5 hs H => ?_⟩
        refine pk_le 8 o (fun _ => pk_le 11 o (fun _ => pk_le 16 o (fun z => absurd z (by omega)) (fun _ => ?_)) (fun z => absurd z (by omega))) (fun z => absurd z (by omega))
        exact h' _ _ hs (fun r s' hs' => by obtain ⟨cn, dr, ra, pt, kp, st, gr, gf, gz, ff, rg, hl, fl, sd, a1, a2, a3, a4, a5⟩ := s'; exact H _ _ hs')
      · by_cases e16 : o = 16
        · obtain ⟨T', X', D', w', h'⟩ := cs_Nput w (r := r) (f := f) (by omega) (by omega)
          refine ⟨T', X', D', w', fun post cn dr ra pt kp st gr gf gz ff rg hl fl sd a1 a2 a3 a4 a5 hs H => ?_⟩
          refine pk_le 8 o (fun _ => pk_le 11 o (fun _ => pk_le 16 o (fun _ => pk_eq o 16 (fun _ => ?_) (fun z => absurd e16 z)) (fun z => absurd z (by omega))) (fun z => absurd z (by omega))) (fun z => absurd z (by omega))
          rw [er, ef]
          exact h' _ _ hs (fun r s' hs' => by obtain ⟨cn, dr, ra, pt, kp, st, gr, gf, gz, ff, rg, hl, fl, sd, a1, a2, a3, a4, a5⟩ := s'; exact H _ _ hs')
        · by_cases o25 : o < 25
          · obtain ⟨T', X', D', w', h'⟩ := cs_Nraw w hc
            refine ⟨T', X', D', w', fun post cn dr ra pt kp st gr gf gz ff rg hl fl sd a1 a2 a3 a4 a5 hs H => ?_⟩
            refine pk_le 8 o (fun _ => pk_le 11 o (fun _ => pk_le 16 o (fun _ => pk_eq o 16 (fun z => absurd z e16) (fun _ => pk_le 25 o (fun z => absurd z (by omega)) (fun _ => ?_))) (fun z => absurd z (by omega))) (fun z => absurd z (by omega))) (fun z => absurd z (by omega))
            exact h' _ _ hs (fun r s' hs' => by obtain ⟨cn, dr, ra, pt, kp, st, gr, gf, gz, ff, rg, hl, fl, sd, a1, a2, a3, a4, a5⟩ := s'; exact H _ _ hs')
          · by_cases e25 : o = 25
            · obtain ⟨T', X', D', w', h'⟩ := cs_Nunraw w
              refine ⟨T', X', D', w', fun post cn dr ra pt kp st gr gf gz ff rg hl fl sd a1 a2 a3 a4 a5 hs H => ?_⟩
              refine pk_le 8 o (fun _ => pk_le 11 o (fun _ => pk_le 16 o (fun _ => pk_eq o 16 (fun z => absurd z e16) (fun _ => pk_le 25 o (fun _ => pk_eq o 25 (fun _ => ?_) (fun z => absurd e25 z)) (fun z => absurd z (by omega)))) (fun z => absurd z (by omega))) (fun z => absurd z (by omega))) (fun z => absurd z (by omega))
              exact h' _ _ hs (fun r s' hs' => by obtain ⟨cn, dr, ra, pt, kp, st, gr, gf, gz, ff, rg, hl, fl, sd, a1, a2, a3, a4, a5⟩ := s'; exact H _ _ hs')
            · by_cases o28 : o < 28
              · obtain ⟨T', X', D', w', h'⟩ := cs_Nwrite w hd
                refine ⟨T', X', D', w', fun post cn dr ra pt kp st gr gf gz ff rg hl fl sd a1 a2 a3 a4 a5 hs H => ?_⟩
                refine pk_le 8 o (fun _ => pk_le 11 o (fun _ => pk_le 16 o (fun _ => pk_eq o 16 (fun z => absurd z e16) (fun _ => pk_le 25 o (fun _ => pk_eq o 25 (fun z => absurd z e25) (fun _ => pk_le 28 o (fun z => absurd z (by omega)) (fun _ => ?_))) (fun z => absurd z (by omega)))) (fun z => absurd z (by omega))) (fun z => absurd z (by omega))) (fun z => absurd z (by omega))
                rw [ed]
                exact h' _ _ hs (fun r s' hs' => by obtain ⟨cn, dr, ra, pt, kp, st, gr, gf, gz, ff, rg, hl, fl, sd, a1, a2, a3, a4, a5⟩ := s'; exact H _ _ hs')
              · by_cases o31 : o < 31
                · obtain ⟨T', X', D', w', h'⟩ := cs_Nread w hd
                  refine ⟨T', X', D', w', fun post cn dr ra pt kp st gr gf gz ff rg hl fl sd a1 a2 a3 a4 a5 hs H => ?_⟩
                  refine pk_le 8 o (fun _ => pk_le 11 o (fun _ => pk_le 16 o (fun _ => pk_eq o 16 (fun z => absurd z e16) (fun _ => pk_le 25 o (fun _ => pk_eq o 25 (fun z => absurd z e25) (fun _ => pk_le 28 o (fun _ => pk_le 31 o (fun z => absurd z (by omega)) (fun _ => ?_)) (fun z => absurd z (by omega)))) (fun z => absurd z (by omega)))) (fun z => absurd z (by omega))) (fun z => absurd z (by omega))) (fun z => absurd z (by omega))
                  rw [ed]
                  exact h' _ _ hs (fun r s' hs' => by obtain ⟨cn, dr, ra, pt, kp, st, gr, gf, gz, ff, rg, hl, fl, sd, a1, a2, a3, a4, a5⟩ := s'; exact H _ _ hs')
                · by_cases q0 : p2 &&& 3 = 0
                  · refine ⟨T, [], D, ⟨w.1, w.2.1, Nat.zero_le _, fun a ha => absurd ha List.not_mem_nil, w.2.2.2.2⟩, fun post cn dr ra pt kp st gr gf gz ff rg hl fl sd a1 a2 a3 a4 a5 hs H => ?_⟩
                    obtain ⟨rfl, rfl, rfl, h1, h2, h3⟩ := hs
                    refine pk_le 8 o (fun _ => pk_le 11 o (fun _ => pk_le 16 o (fun _ => pk_eq o 16 (fun z => absurd z e16) (fun _ => pk_le 25 o (fun _ => pk_eq o 25 (fun z => absurd z e25) (fun _ => pk_le 28 o (fun _ => pk_le 31 o (fun _ => br_t q0 ?_) (fun z => absurd z (by omega))) (fun z => absurd z (by omega)))) (fun z => absurd z (by omega)))) (fun z => absurd z (by omega))) (fun z => absurd z (by omega))) (fun z => absurd z (by omega))
                    exact H _ _ ⟨rfl, rfl, rfl, h1, h2, cs_lst_nil⟩
                  · by_cases q1 : p2 &&& 3 = 1
                    · refine ⟨[], X, D, ⟨⟨Nat.zero_le _, fun R hR => absurd hR List.not_mem_nil⟩, fun R hR => absurd hR List.not_mem_nil, w.2.2⟩, fun post cn dr ra pt kp st gr gf gz ff rg hl fl sd a1 a2 a3 a4 a5 hs H => ?_⟩
                      obtain ⟨rfl, rfl, rfl, h1, h2, h3⟩ := hs
                      refine pk_le 8 o (fun _ => pk_le 11 o (fun _ => pk_le 16 o (fun _ => pk_eq o 16 (fun z => absurd z e16) (fun _ => pk_le 25 o (fun _ => pk_eq o 25 (fun z => absurd z e25) (fun _ => pk_le 28 o (fun _ => pk_le 31 o (fun _ => br_f q0 (br_t q1 ?_)) (fun z => absurd z (by omega))) (fun z => absurd z (by omega)))) (fun z => absurd z (by omega)))) (fun z => absurd z (by omega))) (fun z => absurd z (by omega))) (fun z => absurd z (by omega))
                      exact H _ _ ⟨rfl, rfl, rfl, fun r R h => absurd (show some R = none from h.symm) (Option.some_ne_none R), h2, h3⟩
                    · refine ⟨T, X, [], ⟨w.1, w.2.1, w.2.2.1, w.2.2.2.1, Nat.zero_le _, fun a ha => absurd ha List.not_mem_nil⟩, fun post cn dr ra pt kp st gr gf gz ff rg hl fl sd a1 a2 a3 a4 a5 hs H => ?_⟩
                      obtain ⟨rfl, rfl, rfl, h1, h2, h3⟩ := hs
                      refine pk_le 8 o (fun _ => pk_le 11 o (fun _ => pk_le 16 o (fun _ => pk_eq o 16 (fun z => absurd z e16) (fun _ => pk_le 25 o (fun _ => pk_eq o 25 (fun z => absurd z e25) (fun _ => pk_le 28 o (fun _ => pk_le 31 o (fun _ => br_f q0 (br_f q1 ?_)) (fun z => absurd z (by omega))) (fun z => absurd z (by omega)))) (fun z => absurd z (by omega)))) (fun z => absurd z (by omega))) (fun z => absurd z (by omega))) (fun z => absurd z (by omega))
                      exact H _ _ ⟨rfl, rfl, rfl, h1, cs_lst_nil, h3⟩
theorem cs_wturn (w : cs_W T X D) (p1 p2 : Int32) : cs_N T X D (fun post s => wpL_turn post s p1 p2) := by
  obtain ⟨o, ho, eo⟩ := pk_andE p1 (m := 31) 5 (by decide)
  obtain ⟨j, hj, ej⟩ := pk_andE p2 (m := 15) 4 (by decide)
  by_cases q : p2 &&& 64 = 0
  · obtain ⟨T', X', D', w', h'⟩ := cs_w30 (p2 := p2) (o := o) (c := 5 + j % 6) w ho (by omega)
    have e6 : 5 + (nI j - nI j / 6 * 6) = nI (5 + j % 6) := by
      have h := pk_rem (a := j) (d := 6) (by omega) (by omega) (by omega)
      show nI 5 + (nI j - nI j / nI 6 * nI 6) = _
      rw [h, nI_add]
    refine ⟨T', X', D', w', fun post s hs H => ?_⟩
    obtain ⟨cn, dr, ra, pt, kp, st, gr, gf, gz, ff, rg, hl, fl, sd, a1, a2, a3, a4, a5⟩ := s
    refine nm_r eo (br_t q ⟨by decide, ?_⟩)
    rw [ej, e6]
    exact h' _ _ _ _ _ _ _ _ _ _ _ _ _ _ _ _ _ _ _ _ hs H
  · obtain ⟨T', X', D', w', h'⟩ := cs_w30 (p2 := p2) (o := o) (c := j % 5) w ho (by omega)
    have e5 : nI j - nI j / 5 * 5 = nI (j % 5) := pk_rem (a := j) (d := 5) (by omega) (by omega) (by omega)
    refine ⟨T', X', D', w', fun post s hs H => ?_⟩
    obtain ⟨cn, dr, ra, pt, kp, st, gr, gf, gz, ff, rg, hl, fl, sd, a1, a2, a3, a4, a5⟩ := s
    refine nm_r eo (br_f q ⟨by decide, ?_⟩)
    rw [ej, e5]
    exact h' _ _ _ _ _ _ _ _ _ _ _ _ _ _ _ _ _ _ _ _ hs H
/-! what the law looks at: the same on every state of one table -/
theorem cs_wrec {s : St1} {post : Int32 → Prop} (hs : cs_R T X D s) (H : post (nI T.length)) : wpX_records post s := by
  obtain ⟨cn, dr, ra, pt, kp, st, gr, gf, gz, ff, rg, hl, fl, sd, a1, a2, a3, a4, a5⟩ := s
  obtain ⟨rfl, rfl, rfl, h1, h2, h3⟩ := hs
  exact H
theorem cs_wrawLen {s : St1} {post : Int32 → Prop} (hs : cs_R T X D s) (H : post (nI X.length)) : wpX_rawLength post s := by
  obtain ⟨cn, dr, ra, pt, kp, st, gr, gf, gz, ff, rg, hl, fl, sd, a1, a2, a3, a4, a5⟩ := s
  obtain ⟨rfl, rfl, rfl, h1, h2, h3⟩ := hs
  exact H
theorem cs_vfields (hT : cs_len T) (hr : r ≤ 900) : ∃ v, ∀ (X D : List Nat) (post : Int32 → Prop) (s : St1), cs_R T X D s → post v → wpX_fields post s (nI r) := by
  have g := hT.1
  by_cases z : r < T.length
  · refine ⟨nI T[r].length, fun X D post s hs H => ?_⟩
    obtain ⟨cn, dr, ra, pt, kp, st, gr, gf, gz, ff, rg, hl, fl, sd, a1, a2, a3, a4, a5⟩ := s
    obtain ⟨rfl, rfl, rfl, h1, h2, h3⟩ := hs
    have he : a1 (nI r).toNatClampNeg = nI T[r].length := by rw [nI_clamp (by omega), (h1 r _ (List.getElem?_eq_getElem z)).1]
    rw [← he] at H
    exact pk_lt r 0 (fun z => absurd z (by omega)) (fun _ => pk_lt r T.length (fun _ => ⟨pk_in r 6 (by omega), H⟩) (fun q => absurd q (by omega)))
  · refine ⟨-4, fun X D post s hs H => ?_⟩
    obtain ⟨cn, dr, ra, pt, kp, st, gr, gf, gz, ff, rg, hl, fl, sd, a1, a2, a3, a4, a5⟩ := s
    obtain ⟨rfl, rfl, rfl, h1, h2, h3⟩ := hs
    exact pk_lt r 0 (fun z => absurd z (by omega)) (fun _ => pk_lt r T.length (fun q => absurd q z) (fun _ => H))
theorem cs_vsize (hT : cs_len T) (hr : r ≤ 900) (hf : f ≤ 900) : ∃ v, ∀ (X D : List Nat) (post : Int32 → Prop) (s : St1), cs_R T X D s → post v → wpX_size post s (nI r) (nI f) := by
  have g := hT.1
  by_cases e : ∃ R l, T[r]? = some R ∧ R[f]? = some l
  · obtain ⟨R, l, eR, el⟩ := e
    have g1 := cs_lt eR
    have g2 := cs_lt el
    have g3 := (hT.2 R (cs_gm eR)).2.1
    refine ⟨nI l.length, fun X D post s hs H => ?_⟩
    obtain ⟨cn, dr, ra, pt, kp, st, gr, gf, gz, ff, rg, hl, fl, sd, a1, a2, a3, a4, a5⟩ := s
    obtain ⟨rfl, rfl, rfl, h1, h2, h3⟩ := hs
    have he : a2 (nI r * 5 + nI f).toNatClampNeg = nI l.length := by rw [cs_e3, nI_clamp (by omega), ((h1 r R eR).2 f l el).1]
    rw [← he] at H
    unfold wpX_size
    dsimp only
    exact cs_wnoF hT h1 hr hf (fun q => (q R l eR el).elim) (fun _ _ _ _ => br_t rfl ⟨pk_in (r * 5 + f) 30 (by omega) (cs_e3 r f), H⟩)
  · refine ⟨-4, fun X D post s hs H => ?_⟩
    obtain ⟨cn, dr, ra, pt, kp, st, gr, gf, gz, ff, rg, hl, fl, sd, a1, a2, a3, a4, a5⟩ := s
    obtain ⟨rfl, rfl, rfl, h1, h2, h3⟩ := hs
    unfold wpX_size
    dsimp only
    exact cs_wnoF hT h1 hr hf (fun _ => br_f (by decide) H) (fun R l q q' => absurd ⟨R, l, q, q'⟩ e)
theorem cs_vat {i : Nat} (hT : cs_len T) (hr : r ≤ 900) (hf : f ≤ 900) (hi : i ≤ 900) : ∃ v, ∀ (X D : List Nat) (post : Int32 → Prop) (s : St1), cs_R T X D s → post v → wpX_at post s (nI r) (nI f) (nI i) := by
  have g := hT.1
  by_cases e : ∃ R l, T[r]? = some R ∧ R[f]? = some l
  · obtain ⟨R, l, eR, el⟩ := e
    have g1 := cs_lt eR
    have g2 := cs_lt el
    have g3 := (hT.2 R (cs_gm eR)).2.1
    have g4 := (hT.2 R (cs_gm eR)).2.2 l (cs_gm el)
    by_cases z : i < l.length
    · refine ⟨nI l[i], fun X D post s hs H => ?_⟩
      obtain ⟨cn, dr, ra, pt, kp, st, gr, gf, gz, ff, rg, hl, fl, sd, a1, a2, a3, a4, a5⟩ := s
      obtain ⟨rfl, rfl, rfl, h1, h2, h3⟩ := hs
      have he : a2 (nI r * 5 + nI f).toNatClampNeg = nI l.length := by rw [cs_e3, nI_clamp (by omega), ((h1 r R eR).2 f l el).1]
      have he3 : a3 ((nI r * 5 + nI f) * 6 + nI i).toNatClampNeg = nI l[i] := by rw [cs_e3, cs_e4, nI_clamp (by omega), ((h1 r R eR).2 f l el).2 i _ (List.getElem?_eq_getElem z)]
      rw [← he3] at H
      unfold wpX_at
      dsimp only
      exact cs_wnoF hT h1 hr hf (fun q => (q R l eR el).elim) (fun _ _ _ _ => br_t rfl (pk_lt i 0 (fun z => absurd z (by omega)) (fun _ => ⟨pk_in (r * 5 + f) 30 (by omega) (cs_e3 r f), pk_lt i l.length (fun _ => ⟨pk_in ((r * 5 + f) * 6 + i) 180 (by omega) (by rw [cs_e3, cs_e4]), H⟩) (fun q => absurd q (by omega)) rfl he⟩)))
    · refine ⟨-4, fun X D post s hs H => ?_⟩
      obtain ⟨cn, dr, ra, pt, kp, st, gr, gf, gz, ff, rg, hl, fl, sd, a1, a2, a3, a4, a5⟩ := s
      obtain ⟨rfl, rfl, rfl, h1, h2, h3⟩ := hs
      have he : a2 (nI r * 5 + nI f).toNatClampNeg = nI l.length := by rw [cs_e3, nI_clamp (by omega), ((h1 r R eR).2 f l el).1]
      unfold wpX_at
      dsimp only
      exact cs_wnoF hT h1 hr hf (fun q => (q R l eR el).elim) (fun _ _ _ _ => br_t rfl (pk_lt i 0 (fun z => absurd z (by omega)) (fun _ => ⟨pk_in (r * 5 + f) 30 (by omega) (cs_e3 r f), pk_lt i l.length (fun q => absurd q z) (fun _ => H) rfl he⟩)))
  · refine ⟨-4, fun X D post s hs H => ?_⟩
    obtain ⟨cn, dr, ra, pt, kp, st, gr, gf, gz, ff, rg, hl, fl, sd, a1, a2, a3, a4, a5⟩ := s
    obtain ⟨rfl, rfl, rfl, h1, h2, h3⟩ := hs
    unfold wpX_at
    dsimp only
    exact cs_wnoF hT h1 hr hf (fun _ => br_f (by decide) H) (fun R l q q' => absurd ⟨R, l, q, q'⟩ e)
end
end
section
section
variable {tcn tdr tra tpt tkp tst tgr tgf tgz tff trg thl tfl tsd : Int32} {ta1 ta2 ta3 ta4 ta5 : Nat → Int32} {ucn udr ura upt ukp ust ugr ugf ugz uff urg uhl ufl usd : Int32} {ua1 ua2 ua3 ua4 ua5 : Nat → Int32} {T : List (List (List Nat))} {X D X' D' : List Nat} {post : Int32 → Prop}
theorem cs_weq52 {J : Int32 → Prop} {k r f : Nat} (hT : cs_len T) (ht : cs_R T X D (tcn, tdr, tra, tpt, tkp, tst, tgr, tgf, tgz, tff, trg, thl, tfl, tsd, ta1, ta2, ta3, ta4, ta5)) (hu : cs_R T X' D' (ucn, udr, ura, upt, ukp, ust, ugr, ugf, ugz, uff, urg, uhl, ufl, usd, ua1, ua2, ua3, ua4, ua5)) (hr : r ≤ 900) (hf : f ≤ 900) (H : J (nI (k + 1))) :
    ∀ m i : Nat, i + m = 6 → wL_equal_52 post J (nI k) (nI r) (nI f) tcn tdr tra tpt tkp tst tgr tgf tgz tff trg thl tfl tsd ta1 ta2 ta3 ta4 ta5 ucn udr ura upt ukp ust ugr ugf ugz uff urg uhl ufl usd ua1 ua2 ua3 ua4 ua5 (m + 1) (nI i) := by
  intro m
  induction m with
  | zero =>
    intro i hi
    exact pk_le 6 i (fun _ => nm_r (nI_1 k) H) (fun z => absurd z (by omega))
  | succ m ih =>
    intro i hi
    obtain ⟨v, hv⟩ := cs_vat (i := i) hT hr hf (by omega)
    refine pk_le 6 i (fun z => absurd z (by omega)) (fun _ => ?_)
    exact hv X D _ _ ht (hv X' D' _ _ hu (br_t rfl (nm_r (nI_1 i) (ih (i + 1) (by omega)))))
theorem cs_weq2 (hT : cs_len T) (ht : cs_R T X D (tcn, tdr, tra, tpt, tkp, tst, tgr, tgf, tgz, tff, trg, thl, tfl, tsd, ta1, ta2, ta3, ta4, ta5)) (hu : cs_R T X' D' (ucn, udr, ura, upt, ukp, ust, ugr, ugf, ugz, uff, urg, uhl, ufl, usd, ua1, ua2, ua3, ua4, ua5)) (H : post 1) :
    ∀ m k : Nat, k + m = 30 → wL_equal_2 post tcn tdr tra tpt tkp tst tgr tgf tgz tff trg thl tfl tsd ta1 ta2 ta3 ta4 ta5 ucn udr ura upt ukp ust ugr ugf ugz uff urg uhl ufl usd ua1 ua2 ua3 ua4 ua5 (m + 1) (nI k) := by
  intro m
  induction m with
  | zero =>
    intro k hk
    exact pk_le 30 k (fun _ => cs_wrec ht (cs_wrec hu (br_t rfl H))) (fun z => absurd z (by omega))
  | succ m ih =>
    intro k hk
    obtain ⟨v, hv⟩ := cs_vfields (r := k / 5) hT (by omega)
    obtain ⟨v', hv'⟩ := cs_vsize (r := k / 5) (f := k % 5) hT (by omega) (by omega)
    have e1 : nI k / 5 = nI (k / 5) := pk_div (a := k) (d := 5) (by omega) (by omega) (by omega)
    have e2 : nI k - nI k / 5 * 5 = nI (k % 5) := pk_rem (a := k) (d := 5) (by omega) (by omega) (by omega)
    refine pk_le 30 k (fun z => absurd z (by omega)) (fun _ => ⟨by decide, nm_r e1 ⟨by decide, nm_r e2 ?_⟩⟩)
    exact hv X D _ _ ht (hv X' D' _ _ hu (br_t rfl (hv' X D _ _ ht (hv' X' D' _ _ hu (br_t rfl ⟨7, cs_weq52 hT ht hu (by omega) (by omega) (ih (k + 1) (by omega)) 6 0 rfl⟩)))))
theorem cs_wequal (hT : cs_len T) (ht : cs_R T X D (tcn, tdr, tra, tpt, tkp, tst, tgr, tgf, tgz, tff, trg, thl, tfl, tsd, ta1, ta2, ta3, ta4, ta5)) (hu : cs_R T X' D' (ucn, udr, ura, upt, ukp, ust, ugr, ugf, ugz, uff, urg, uhl, ufl, usd, ua1, ua2, ua3, ua4, ua5)) (H : post 1) : wpL_equal post (tcn, tdr, tra, tpt, tkp, tst, tgr, tgf, tgz, tff, trg, thl, tfl, tsd, ta1, ta2, ta3, ta4, ta5, ucn, udr, ura, upt, ukp, ust, ugr, ugf, ugz, uff, urg, uhl, ufl, usd, ua1, ua2, ua3, ua4, ua5) :=
  ⟨31, cs_weq2 hT ht hu H 30 0 rfl⟩
end
section
variable {tcn tdr tra tpt tkp tst tgr tgf tgz tff trg thl tfl tsd : Int32} {ta1 ta2 ta3 ta4 ta5 : Nat → Int32} {T : List (List (List Nat))} {X D : List Nat} {L d kc ks : Nat} {xs : Nat → Int32}
theorem cs_law257 (w : cs_W T X D) (ht : cs_R T X D (tcn, tdr, tra, tpt, tkp, tst, tgr, tgf, tgz, tff, trg, thl, tfl, tsd, ta1, ta2, ta3, ta4, ta5)) (hd : d < 8) : wL_law_257 (fun r => r = 1) L xs (nI X.length) (nI d) kc ks tcn tdr tra tpt tkp tst tgr tgf tgz tff trg thl tfl tsd ta1 ta2 ta3 ta4 ta5 := by
  have hX := w.2.2.1
  refine cs_wsound w ht hd (fun k s' hs' hk hk7 => ?_)
  obtain ⟨tcn, tdr, tra, tpt, tkp, tst, tgr, tgf, tgz, tff, trg, thl, tfl, tsd, ta1, ta2, ta3, ta4, ta5⟩ := s'
  refine cs_wrd w hs' hd (fun z s'' hs'' => ?_) (fun z hh s'' hs'' => ?_) (fun z hh s'' hs'' => ?_)
  · obtain ⟨tcn, tdr, tra, tpt, tkp, tst, tgr, tgf, tgz, tff, trg, thl, tfl, tsd, ta1, ta2, ta3, ta4, ta5⟩ := s''
    exact br_t rfl rfl
  · obtain ⟨tcn, tdr, tra, tpt, tkp, tst, tgr, tgf, tgz, tff, trg, thl, tfl, tsd, ta1, ta2, ta3, ta4, ta5⟩ := s''
    exact br_f (by decide) (pk_eq k X.length (fun _ => br_t rfl rfl) (fun q => absurd (hk7 (by omega)) q))
  · obtain ⟨tcn, tdr, tra, tpt, tkp, tst, tgr, tgf, tgz, tff, trg, thl, tfl, tsd, ta1, ta2, ta3, ta4, ta5⟩ := s''
    have ok := cs_ok_run (d := d) w.2.2.2.1
    have g1 := (ok.2.2.2.2.1 hh).1
    rw [cs_tab_0 z] at g1
    exact br_c (fun _ => rfl) (fun _ => pk_eq k X.length (fun _ => br_c (fun _ => rfl) (fun _ => pk_lt (cs_run d X).2.1.length 0 (fun q => absurd q (by omega)) (fun _ => pk_lt 6 (cs_run d X).2.1.length (fun q => absurd q (by omega)) (fun _ => rfl)))) (fun q => absurd (hk7 (by omega)) q))
end
section
variable {T : List (List (List Nat))} {X D : List Nat} {L kc ks : Nat} {xs : Nat → Int32}
theorem cs_law126 (hL : L ≤ 260) (w : cs_W T X D) : ∀ (m d : Nat) (X' : List Nat) (tcn tdr tra tpt tkp tst tgr tgf tgz tff trg thl tfl tsd : Int32) (ta1 ta2 ta3 ta4 ta5 : Nat → Int32) (ucn udr ura upt ukp ust ugr ugf ugz uff urg uhl ufl usd : Int32) (ua1 ua2 ua3 ua4 ua5 : Nat → Int32), d + m = 8 → cs_W T X' D → cs_R T X D (tcn, tdr, tra, tpt, tkp, tst, tgr, tgf, tgz, tff, trg, thl, tfl, tsd, ta1, ta2, ta3, ta4, ta5) → cs_R T X' D (ucn, udr, ura, upt, ukp, ust, ugr, ugf, ugz, uff, urg, uhl, ufl, usd, ua1, ua2, ua3, ua4, ua5) →
    wL_law_126 (fun r => r = 1) L xs (nI X.length) kc ks (m + 1) (nI d) tcn tdr tra tpt tkp tst tgr tgf tgz tff trg thl tfl tsd ta1 ta2 ta3 ta4 ta5 ucn udr ura upt ukp ust ugr ugf ugz uff urg uhl ufl usd ua1 ua2 ua3 ua4 ua5 := by
  intro m
  induction m with
  | zero =>
    intro d X' tcn tdr tra tpt tkp tst tgr tgf tgz tff trg thl tfl tsd ta1 ta2 ta3 ta4 ta5 ucn udr ura upt ukp ust ugr ugf ugz uff urg uhl ufl usd ua1 ua2 ua3 ua4 ua5 hd w' ht hu
    refine pk_le 8 d (fun _ => pk_le L 0 (fun z => ?_) (fun z => ⟨pk_in 0 L z, ?_⟩)) (fun z => absurd z (by omega))
    · exact cs_law257 (d := 0) w ht (by omega)
    · obtain ⟨j, hj, ej⟩ := pk_andE (xs (0 : Int32).toNatClampNeg) (m := 7) 3 (by decide)
      rw [ej]
      exact cs_law257 w ht hj
  | succ m ih =>
    intro d X' tcn tdr tra tpt tkp tst tgr tgf tgz tff trg thl tfl tsd ta1 ta2 ta3 ta4 ta5 ucn udr ura upt ukp ust ugr ugf ugz uff urg uhl ufl usd ua1 ua2 ua3 ua4 ua5 hd w' ht hu
    have hd8 : d < 8 := by omega
    have hlen := cs_wr_len (d := d) w.1
    refine pk_le 8 d (fun z => absurd z (by omega)) (fun _ => ?_)
    refine cs_wwritten w' hu hd8 (fun s' hu => ?_)
    obtain ⟨ucn, udr, ura, upt, ukp, ust, ugr, ugf, ugz, uff, urg, uhl, ufl, usd, ua1, ua2, ua3, ua4, ua5⟩ := s'
    refine cs_wwrite w' hu hd8 (fun z s' hu => ?_) (fun z s' hu => ?_)
    · obtain ⟨ucn, udr, ura, upt, ukp, ust, ugr, ugf, ugz, uff, urg, uhl, ufl, usd, ua1, ua2, ua3, ua4, ua5⟩ := s'
      refine pk_le (cs_wr d T).length 96 (fun q => absurd q (by omega)) (fun _ => br_t rfl (pk_le (cs_wr d T).length 96 (fun q => absurd q (by omega)) (fun _ => ?_)))
      refine cs_wrec hu (cs_wrec ht (br_t rfl ?_))
      exact cs_wequal w.1 ht hu (br_f (by decide) (nm_r (nI_1 d) (ih (d + 1) X' _ _ _ _ _ _ _ _ _ _ _ _ _ _ _ _ _ _ _ _ _ _ _ _ _ _ _ _ _ _ _ _ _ _ _ _ _ _ (by omega) w' ht hu)))
    · obtain ⟨ucn, udr, ura, upt, ukp, ust, ugr, ugf, ugz, uff, urg, uhl, ufl, usd, ua1, ua2, ua3, ua4, ua5⟩ := s'
      have w2 : cs_W T (cs_wr d T) D := ⟨w.1, w.2.1, z, cs_wr_le w.2.1, w.2.2.2.2⟩
      obtain ⟨ru, rl, er⟩ := cs_round (d := d) w.1 w.2.1
      refine pk_le (cs_wr d T).length 96 (fun _ => br_t rfl (cs_wrawLen hu (br_t rfl ?_))) (fun q => absurd q (by omega))
      refine cs_wsound w2 hu hd8 (fun k s' hu hk hk7 => ?_)
      obtain ⟨ucn, udr, ura, upt, ukp, ust, ugr, ugf, ugz, uff, urg, uhl, ufl, usd, ua1, ua2, ua3, ua4, ua5⟩ := s'
      have hk' : k = (cs_wr d T).length := hk7 (by rw [er]; show ¬ 0 = 7; omega)
      rw [hk']
      refine br_t rfl (pk_le (cs_wr d T).length 96 (fun _ => ?_) (fun q => absurd q (by omega)))
      refine cs_wrd w2 hu hd8 (fun q => absurd (by rw [er]) q) (fun _ q => absurd q (by rw [er]; show ¬ true = false; decide)) (fun _ _ s' hu => ?_)
      rw [er] at hu ⊢
      obtain ⟨ucn, udr, ura, upt, ukp, ust, ugr, ugf, ugz, uff, urg, uhl, ufl, usd, ua1, ua2, ua3, ua4, ua5⟩ := s'
      refine cs_wrec ht (br_t rfl ?_)
      exact cs_wequal w.1 ht hu (br_f (by decide) (nm_r (nI_1 d) (ih (d + 1) (cs_wr d T) _ _ _ _ _ _ _ _ _ _ _ _ _ _ _ _ _ _ _ _ _ _ _ _ _ _ _ _ _ _ _ _ _ _ _ _ _ _ (by omega) w2 ht hu)))
theorem cs_law72 (hL : L ≤ 260) (w : cs_W T X D) {e : Int32} (he : ∀ j, j < 8 → (e >>> (nI j &&& 31)) &&& 1 = 1 → (cs_run j X).1 = 0) : ∀ (m d : Nat) (tcn tdr tra tpt tkp tst tgr tgf tgz tff trg thl tfl tsd : Int32) (ta1 ta2 ta3 ta4 ta5 : Nat → Int32) (ucn udr ura upt ukp ust ugr ugf ugz uff urg uhl ufl usd : Int32) (ua1 ua2 ua3 ua4 ua5 : Nat → Int32), d + m = 8 → cs_R T X D (tcn, tdr, tra, tpt, tkp, tst, tgr, tgf, tgz, tff, trg, thl, tfl, tsd, ta1, ta2, ta3, ta4, ta5) → cs_R T X D (ucn, udr, ura, upt, ukp, ust, ugr, ugf, ugz, uff, urg, uhl, ufl, usd, ua1, ua2, ua3, ua4, ua5) →
    wL_law_72 (fun r => r = 1) L xs (nI X.length) e kc ks (m + 1) (nI d) tcn tdr tra tpt tkp tst tgr tgf tgz tff trg thl tfl tsd ta1 ta2 ta3 ta4 ta5 ucn udr ura upt ukp ust ugr ugf ugz uff urg uhl ufl usd ua1 ua2 ua3 ua4 ua5 := by
  have hX := w.2.2.1
  intro m
  induction m with
  | zero =>
    intro d tcn tdr tra tpt tkp tst tgr tgf tgz tff trg thl tfl tsd ta1 ta2 ta3 ta4 ta5 ucn udr ura upt ukp ust ugr ugf ugz uff urg uhl ufl usd ua1 ua2 ua3 ua4 ua5 hd ht hu
    exact pk_le 8 d (fun _ => ⟨9, cs_law126 hL w 8 0 X _ _ _ _ _ _ _ _ _ _ _ _ _ _ _ _ _ _ _ _ _ _ _ _ _ _ _ _ _ _ _ _ _ _ _ _ _ _ rfl w ht hu⟩) (fun z => absurd z (by omega))
  | succ m ih =>
    intro d tcn tdr tra tpt tkp tst tgr tgf tgz tff trg thl tfl tsd ta1 ta2 ta3 ta4 ta5 ucn udr ura upt ukp ust ugr ugf ugz uff urg uhl ufl usd ua1 ua2 ua3 ua4 ua5 hd ht hu
    refine pk_le 8 d (fun z => absurd z (by omega)) (fun _ => ?_)
    refine cs_wsound w ht (by omega) (fun k s' ht hk hk7 => ?_)
    obtain ⟨tcn, tdr, tra, tpt, tkp, tst, tgr, tgf, tgz, tff, trg, thl, tfl, tsd, ta1, ta2, ta3, ta4, ta5⟩ := s'
    refine pk_lt k 0 (fun z => absurd z (by omega)) (fun _ => pk_lt X.length k (fun z => absurd z (by omega)) (fun _ => br_c (fun hb => pk_eq k X.length (fun _ => nm_r (nI_1 d) ?_) (fun q => absurd (hk7 (by rw [he d (by omega) hb]; omega)) q)) (fun _ => nm_r (nI_1 d) ?_)))
    · exact ih (d + 1) _ _ _ _ _ _ _ _ _ _ _ _ _ _ _ _ _ _ _ _ _ _ _ _ _ _ _ _ _ _ _ _ _ _ _ _ _ _ (by omega) ht hu
    · exact ih (d + 1) _ _ _ _ _ _ _ _ _ _ _ _ _ _ _ _ _ _ _ _ _ _ _ _ _ _ _ _ _ _ _ _ _ _ _ _ _ _ (by omega) ht hu
end
theorem cs_law18 {L kc ks : Nat} {xs : Nat → Int32} (hL : L ≤ 260) : ∀ (m i : Nat) (T : List (List (List Nat))) (X D : List Nat) (tcn tdr tra tpt tkp tst tgr tgf tgz tff trg thl tfl tsd : Int32) (ta1 ta2 ta3 ta4 ta5 : Nat → Int32) (ucn udr ura upt ukp ust ugr ugf ugz uff urg uhl ufl usd : Int32) (ua1 ua2 ua3 ua4 ua5 : Nat → Int32), L ≤ i + 2 * m + 1 → i ≤ L → cs_W T X D → cs_R T X D (tcn, tdr, tra, tpt, tkp, tst, tgr, tgf, tgz, tff, trg, thl, tfl, tsd, ta1, ta2, ta3, ta4, ta5) → cs_R T X D (ucn, udr, ura, upt, ukp, ust, ugr, ugf, ugz, uff, urg, uhl, ufl, usd, ua1, ua2, ua3, ua4, ua5) →
    wL_law_18 (fun r => r = 1) L xs kc ks (m + 1) (nI i) tcn tdr tra tpt tkp tst tgr tgf tgz tff trg thl tfl tsd ta1 ta2 ta3 ta4 ta5 ucn udr ura upt ukp ust ugr ugf ugz uff urg uhl ufl usd ua1 ua2 ua3 ua4 ua5 := by
  have hexit : ∀ (n i : Nat) (T : List (List (List Nat))) (X D : List Nat) (tcn tdr tra tpt tkp tst tgr tgf tgz tff trg thl tfl tsd : Int32) (ta1 ta2 ta3 ta4 ta5 : Nat → Int32) (ucn udr ura upt ukp ust ugr ugf ugz uff urg uhl ufl usd : Int32) (ua1 ua2 ua3 ua4 ua5 : Nat → Int32), L ≤ i + 1 → i ≤ L → cs_W T X D → cs_R T X D (tcn, tdr, tra, tpt, tkp, tst, tgr, tgf, tgz, tff, trg, thl, tfl, tsd, ta1, ta2, ta3, ta4, ta5) → cs_R T X D (ucn, udr, ura, upt, ukp, ust, ugr, ugf, ugz, uff, urg, uhl, ufl, usd, ua1, ua2, ua3, ua4, ua5) → wL_law_18 (fun r => r = 1) L xs kc ks (n + 1) (nI i) tcn tdr tra tpt tkp tst tgr tgf tgz tff trg thl tfl tsd ta1 ta2 ta3 ta4 ta5 ucn udr ura upt ukp ust ugr ugf ugz uff urg uhl ufl usd ua1 ua2 ua3 ua4 ua5 := by
    intro n i T X D tcn tdr tra tpt tkp tst tgr tgf tgz tff trg thl tfl tsd ta1 ta2 ta3 ta4 ta5 ucn udr ura upt ukp ust ugr ugf ugz uff urg uhl ufl usd ua1 ua2 ua3 ua4 ua5 hm hi w ht hu
    refine pk_le L (i + 1) (fun _ => ?_) (fun z => absurd z (by omega)) rfl (nI_1 i)
    refine cs_wrawLen ht ?_
    refine cs_weven w ht (fun e s' ht he => ?_)
    obtain ⟨tcn, tdr, tra, tpt, tkp, tst, tgr, tgf, tgz, tff, trg, thl, tfl, tsd, ta1, ta2, ta3, ta4, ta5⟩ := s'
    exact ⟨9, cs_law72 hL w he 8 0 _ _ _ _ _ _ _ _ _ _ _ _ _ _ _ _ _ _ _ _ _ _ _ _ _ _ _ _ _ _ _ _ _ _ _ _ _ _ rfl ht hu⟩
  intro m
  induction m with
  | zero =>
    intro i T X D tcn tdr tra tpt tkp tst tgr tgf tgz tff trg thl tfl tsd ta1 ta2 ta3 ta4 ta5 ucn udr ura upt ukp ust ugr ugf ugz uff urg uhl ufl usd ua1 ua2 ua3 ua4 ua5 hm hi w ht hu
    exact hexit 0 i T X D _ _ _ _ _ _ _ _ _ _ _ _ _ _ _ _ _ _ _ _ _ _ _ _ _ _ _ _ _ _ _ _ _ _ _ _ _ _ (by omega) hi w ht hu
  | succ m ih =>
    intro i T X D tcn tdr tra tpt tkp tst tgr tgf tgz tff trg thl tfl tsd ta1 ta2 ta3 ta4 ta5 ucn udr ura upt ukp ust ugr ugf ugz uff urg uhl ufl usd ua1 ua2 ua3 ua4 ua5 hm hi w ht hu
    by_cases z : L ≤ i + 1
    · exact hexit (m + 1) i T X D _ _ _ _ _ _ _ _ _ _ _ _ _ _ _ _ _ _ _ _ _ _ _ _ _ _ _ _ _ _ _ _ _ _ _ _ _ _ z hi w ht hu
    · have v1 : vp_in (nI i) L := pk_in i L (by omega)
      have v2 : vp_in (nI i + 1) L := pk_in (i + 1) L (by omega) (nI_1 i)
      obtain ⟨T', X', D', w', h'⟩ := cs_wturn w (xs (nI i).toNatClampNeg) (xs (nI i + 1).toNatClampNeg)
      refine pk_le L (i + 1) (fun q => absurd q z) (fun _ => ⟨v1, v2, ?_⟩) rfl (nI_1 i)
      refine h' _ _ ht (fun r s' ht => ?_)
      obtain ⟨tcn, tdr, tra, tpt, tkp, tst, tgr, tgf, tgz, tff, trg, thl, tfl, tsd, ta1, ta2, ta3, ta4, ta5⟩ := s'
      refine ⟨v1, v2, h' _ _ hu (fun r s' hu => ?_)⟩
      obtain ⟨ucn, udr, ura, upt, ukp, ust, ugr, ugf, ugz, uff, urg, uhl, ufl, usd, ua1, ua2, ua3, ua4, ua5⟩ := s'
      have e2 : nI i + 2 = nI (i + 2) := nI_add i 2
      exact nm_r e2 (ih (i + 2) T' X' D' _ _ _ _ _ _ _ _ _ _ _ _ _ _ _ _ _ _ _ _ _ _ _ _ _ _ _ _ _ _ _ _ _ _ _ _ _ _ (by omega) (by omega) w' ht hu)
theorem i_vc (xs : Nat → Int32) (L : Nat) (hL : L ≤ 260) : wpL_law (fun r => r = 1) L xs := by
  have w : cs_W [] [] [] := ⟨⟨Nat.zero_le _, fun R hR => absurd hR List.not_mem_nil⟩, fun R hR => absurd hR List.not_mem_nil, Nat.zero_le _, fun c hc => absurd hc List.not_mem_nil, Nat.zero_le _, fun c hc => absurd hc List.not_mem_nil⟩
  have h : ∀ pt kp st gr gf gz ff rg hl fl sd, cs_R [] [] [] (0, 0, 0, pt, kp, st, gr, gf, gz, ff, rg, hl, fl, sd, (fun _ => 0), (fun _ => 0), (fun _ => 0), (fun _ => 0), (fun _ => 0)) := fun _ _ _ _ _ _ _ _ _ _ _ => ⟨rfl, rfl, rfl, fun r R h => absurd (show some R = none from h.symm) (Option.some_ne_none R), cs_lst_nil, cs_lst_nil⟩
  refine ⟨5, 318, by omega, by omega, ?_⟩
  refine ⟨by omega, by omega, by omega, by omega, by omega, by omega, by omega, by omega, by omega, by omega, ?_⟩
  refine ⟨by omega, by omega, 5, 318, by omega, by omega, ?_⟩
  refine ⟨by omega, by omega, by omega, by omega, by omega, by omega, by omega, by omega, by omega, by omega, ?_⟩
  exact ⟨L + 1, cs_law18 hL L 0 [] [] [] _ _ _ _ _ _ _ _ _ _ _ _ _ _ _ _ _ _ _ _ _ _ _ _ _ _ _ _ _ _ _ _ _ _ _ _ _ _ (by omega) (Nat.zero_le _) w (h ..) (h ..)⟩
end
