
/-! reading, pure: the reader by descent, and the reader with waits -/
theorem mx_fuel {T : Nat → Int32} {N : Nat} : ∀ (f g a : Nat) (w : Bool) (W : List Nat) (o : List Int32), N - a + 1 ≤ f → N - a + 1 ≤ g → mx T N f a w W o = mx T N g a w W o
  | 0, g, a, w, W, o, hf, hg => by omega
  | f + 1, 0, a, w, W, o, hf, hg => by omega
  | f + 1, g + 1, a, true, W, o, hf, hg => by
    have hb := skp_b (T := T) (N := N) (a := a)
    by_cases hc : cur T N (skp T N a) = 33 ∨ cur T N (skp T N a) = 40
    · have hlt : skp T N a < N := cur_lt (T := T) (fun z => by rw [z] at hc; rcases hc with y | y <;> exact absurd y (by decide))
      rw [mx_open hc, mx_open hc]
      split
      · rfl
      · exact mx_fuel f g _ _ _ _ (by omega) (by omega)
    · cases hat : atm T N (skp T N a) (cur T N (skp T N a)) with
      | none => rw [mx_none hc hat, mx_none hc hat]
      | some z =>
        cases z with
        | inl p' => rw [mx_bad hc hat, mx_bad hc hat]
        | inr q =>
          have hp := atm_pos (e := q.1) (x := q.2) hat
          have hlt := atm_lt hat
          rw [mx_atom hc hat, mx_atom hc hat]
          exact mx_fuel f g _ _ _ _ (by omega) (by omega)
  | f + 1, g + 1, a, false, W, o, hf, hg => by
    have hb := skp_b (T := T) (N := N) (a := a)
    by_cases hc : cur T N (skp T N a) = 38 ∨ cur T N (skp T N a) = 124
    · have hlt : skp T N a < N := cur_lt (T := T) (fun z => by rw [z] at hc; rcases hc with y | y <;> exact absurd y (by decide))
      rw [mx_join hc, mx_join hc]
      exact mx_fuel f g _ _ _ _ (by omega) (by omega)
    · by_cases h41 : cur T N (skp T N a) = 41
      · have hlt : skp T N a < N := cur_lt (T := T) (fun z => by rw [z] at h41; exact absurd h41 (by decide))
        cases hv : (stl 1 W o).1 with
        | nil => rw [mx_cl0 hc h41 hv, mx_cl0 hc h41 hv]
        | cons x V =>
          rw [mx_cl1 hc h41 hv, mx_cl1 hc h41 hv]
          exact mx_fuel f g _ _ _ _ (by omega) (by omega)
      · rw [mx_end hc h41, mx_end hc h41]
/-- the reader with waits, with fuel enough -/
def MX (T : Nat → Int32) (N a : Nat) (w : Bool) (W : List Nat) (o : List Int32) : Nat ⊕ (Nat × List Nat × List Int32) := mx T N (N - a + 1) a w W o
theorem MX_open {T : Nat → Int32} {N a : Nat} {W : List Nat} {o : List Int32} (hc : cur T N (skp T N a) = 33 ∨ cur T N (skp T N a) = 40) : MX T N a true W o = (if dep W = 8 then .inl (skp T N a) else MX T N (skp T N a + 1) true ((if cur T N (skp T N a) = 33 then 3 else 0) :: W) o) := by
  have hb := skp_b (T := T) (N := N) (a := a)
  have hlt : skp T N a < N := cur_lt (T := T) (fun z => by rw [z] at hc; rcases hc with y | y <;> exact absurd y (by decide))
  unfold MX
  rw [mx_open hc]
  split
  · rfl
  · exact mx_fuel _ _ _ _ _ _ (by omega) (by omega)
theorem MX_none {T : Nat → Int32} {N a : Nat} {W : List Nat} {o : List Int32} (h : ¬ (cur T N (skp T N a) = 33 ∨ cur T N (skp T N a) = 40)) (ha : atm T N (skp T N a) (cur T N (skp T N a)) = none) : MX T N a true W o = .inl (skp T N a) := mx_none h ha
theorem MX_bad {T : Nat → Int32} {N a p : Nat} {W : List Nat} {o : List Int32} (h : ¬ (cur T N (skp T N a) = 33 ∨ cur T N (skp T N a) = 40)) (ha : atm T N (skp T N a) (cur T N (skp T N a)) = some (.inl p)) : MX T N a true W o = .inl p := mx_bad h ha
theorem MX_atom {T : Nat → Int32} {N a e : Nat} {x : Int32} {W : List Nat} {o : List Int32} (h : ¬ (cur T N (skp T N a) = 33 ∨ cur T N (skp T N a) = 40)) (hat : atm T N (skp T N a) (cur T N (skp T N a)) = some (.inr (e, x))) : MX T N a true W o = MX T N e false (stl 3 W (o ++ [x])).1 (stl 3 W (o ++ [x])).2 := by
  have hb := skp_b (T := T) (N := N) (a := a)
  have hp := atm_pos hat
  have hlt := atm_lt hat
  unfold MX
  rw [mx_atom h hat]
  exact mx_fuel _ _ _ _ _ _ (by omega) (by omega)
theorem MX_join {T : Nat → Int32} {N a : Nat} {W : List Nat} {o : List Int32} (hc : cur T N (skp T N a) = 38 ∨ cur T N (skp T N a) = 124) : MX T N a false W o = MX T N (skp T N a + 1) true ((if cur T N (skp T N a) = 38 then 2 else 1) :: (stl (if cur T N (skp T N a) = 38 then 2 else 1) W o).1) (stl (if cur T N (skp T N a) = 38 then 2 else 1) W o).2 := by
  have hb := skp_b (T := T) (N := N) (a := a)
  have hlt : skp T N a < N := cur_lt (T := T) (fun z => by rw [z] at hc; rcases hc with y | y <;> exact absurd y (by decide))
  unfold MX
  rw [mx_join hc]
  exact mx_fuel _ _ _ _ _ _ (by omega) (by omega)
theorem MX_end {T : Nat → Int32} {N a : Nat} {W : List Nat} {o : List Int32} (h : ¬ (cur T N (skp T N a) = 38 ∨ cur T N (skp T N a) = 124)) (h2 : ¬ cur T N (skp T N a) = 41) : MX T N a false W o = .inr (skp T N a, W, o) := mx_end h h2
theorem MX_cl0 {T : Nat → Int32} {N a : Nat} {W : List Nat} {o : List Int32} (h : ¬ (cur T N (skp T N a) = 38 ∨ cur T N (skp T N a) = 124)) (h2 : cur T N (skp T N a) = 41) (h3 : (stl 1 W o).1 = []) : MX T N a false W o = .inr (skp T N a, [], (stl 1 W o).2) := mx_cl0 h h2 h3
theorem MX_cl1 {T : Nat → Int32} {N a x : Nat} {W V : List Nat} {o : List Int32} (h : ¬ (cur T N (skp T N a) = 38 ∨ cur T N (skp T N a) = 124)) (h41 : cur T N (skp T N a) = 41) (h3 : (stl 1 W o).1 = x :: V) : MX T N a false W o = MX T N (skp T N a + 1) false (stl 3 V (stl 1 W o).2).1 (stl 3 V (stl 1 W o).2).2 := by
  have hb := skp_b (T := T) (N := N) (a := a)
  have hlt : skp T N a < N := cur_lt (T := T) (fun z => by rw [z] at h41; exact absurd h41 (by decide))
  unfold MX
  rw [mx_cl1 h h41 h3]
  exact mx_fuel _ _ _ _ _ _ (by omega) (by omega)
theorem MX_skp {T : Nat → Int32} {N a : Nat} {W : List Nat} {o : List Int32} : MX T N (skp T N a) false W o = MX T N a false W o := by
  by_cases hc : cur T N (skp T N a) = 38 ∨ cur T N (skp T N a) = 124
  · have hc' : cur T N (skp T N (skp T N a)) = 38 ∨ cur T N (skp T N (skp T N a)) = 124 := by rw [skp_skp]; exact hc
    rw [MX_join hc, MX_join hc', skp_skp]
  · have hc' : ¬ (cur T N (skp T N (skp T N a)) = 38 ∨ cur T N (skp T N (skp T N a)) = 124) := by rw [skp_skp]; exact hc
    by_cases h41 : cur T N (skp T N a) = 41
    · have h41' : cur T N (skp T N (skp T N a)) = 41 := by rw [skp_skp]; exact h41
      cases hv : (stl 1 W o).1 with
      | nil => rw [MX_cl0 hc h41 hv, MX_cl0 hc' h41' hv, skp_skp]
      | cons x V => rw [MX_cl1 hc h41 hv, MX_cl1 hc' h41' hv, skp_skp]
    · have h41' : ¬ cur T N (skp T N (skp T N a)) = 41 := by rw [skp_skp]; exact h41
      rw [MX_end hc h41, MX_end hc' h41', skp_skp]
/-- the end of an expression -/
def fin1 (q : Nat ⊕ (Nat × List Nat × List Int32)) : Nat ⊕ (Nat × List Int32) :=
  match q with
  | .inl p => .inl p
  | .inr q => if (stl 1 q.2.1 q.2.2).1 = [] then .inr (q.1, (stl 1 q.2.1 q.2.2).2) else .inl q.1
theorem ex_MX {T : Nat → Int32} {N a : Nat} {o : List Int32} (hN : N ≤ 90) : ex T N a o = fin1 (MX T N a true [] o) := by
  unfold ex fin1 MX
  rw [mx_fuel 100 (N - a + 1) a true [] o (by omega) (by omega)]
  cases mx T N (N - a + 1) a true [] o <;> rfl
/-- the reader by descent; the mode: 0 a part, 1 parts joined by and, 2 its loop, 3 those joined by or, 4 its loop -/
def pp (T : Nat → Int32) (N : Nat) : Nat → Nat → Nat → Nat → List Int32 → Nat ⊕ (Nat × List Int32)
  | 0, _, _, a, _ => .inl a
  | f + 1, 0, d, a, _ =>
    if cur T N (skp T N a) = 33 then (if d = 8 then .inl (skp T N a) else match pp T N f 0 (d + 1) (skp T N a + 1) [] with
      | .inl p => .inl p
      | .inr q => .inr (q.1, q.2 ++ [10000000]))
    else if cur T N (skp T N a) = 40 then (if d = 8 then .inl (skp T N a) else match pp T N f 3 (d + 1) (skp T N a + 1) [] with
      | .inl p => .inl p
      | .inr q => if cur T N (skp T N q.1) = 41 then .inr (skp T N q.1 + 1, q.2) else .inl (skp T N q.1))
    else match atm T N (skp T N a) (cur T N (skp T N a)) with
      | none => .inl (skp T N a)
      | some (.inl p) => .inl p
      | some (.inr q) => .inr (q.1, [q.2])
  | f + 1, 1, d, a, _ => match pp T N f 0 d a [] with
      | .inl p => .inl p
      | .inr q => pp T N f 2 d q.1 q.2
  | f + 1, 2, d, a, acc => if cur T N (skp T N a) = 38 then (match pp T N f 0 d (skp T N a + 1) [] with
      | .inl p => .inl p
      | .inr q => pp T N f 2 d q.1 (acc ++ q.2 ++ [11000000])) else .inr (skp T N a, acc)
  | f + 1, 3, d, a, _ => match pp T N f 1 d a [] with
      | .inl p => .inl p
      | .inr q => pp T N f 4 d q.1 q.2
  | f + 1, _, d, a, acc => if cur T N (skp T N a) = 124 then (match pp T N f 1 d (skp T N a + 1) [] with
      | .inl p => .inl p
      | .inr q => pp T N f 4 d q.1 (acc ++ q.2 ++ [12000000])) else .inr (skp T N a, acc)
theorem stl_low {m : Nat} {W : List Nat} {o : List Int32} (h : ∀ x V, W = x :: V → x < m) : stl m W o = (W, o) := by
  cases W with
  | nil => rfl
  | cons y V => rw [stl, if_neg (by have := h y V rfl; omega)]
theorem stl_stl {m n : Nat} (h : n ≤ m) : ∀ (W : List Nat) (o : List Int32), stl n (stl m W o).1 (stl m W o).2 = stl n W o
  | [], o => rfl
  | x :: W, o => by
    rw [stl]
    split
    · rw [stl_stl h W, stl, if_pos (by omega)]
    · rfl
def low (m : Nat) (C : List Nat) : Prop := ∀ x V, C = x :: V → x < m
def A0 (T : Nat → Int32) (N f : Nat) : Prop := ∀ d a : Nat, 4 * (N - a) + 1 ≤ f → (∀ p, pp T N f 0 d a [] = .inl p → ∀ W o, dep W = d → fin1 (MX T N a true W o) = .inl p) ∧ ∀ e s, pp T N f 0 d a [] = .inr (e, s) → a < e ∧ e ≤ N ∧ ∀ W o, dep W = d → MX T N a true W o = MX T N e false (stl 3 W (o ++ s)).1 (stl 3 W (o ++ s)).2
def A1 (T : Nat → Int32) (N f : Nat) : Prop := ∀ d a : Nat, 4 * (N - a) + 2 ≤ f → (∀ p, pp T N f 1 d a [] = .inl p → ∀ C o, dep C = d → low 2 C → fin1 (MX T N a true C o) = .inl p) ∧ ∀ e s, pp T N f 1 d a [] = .inr (e, s) → a < e ∧ e ≤ N ∧ skp T N e = e ∧ ¬ cur T N e = 38 ∧ ∀ C o, dep C = d → low 2 C → ∃ W2 o2, MX T N a true C o = MX T N e false W2 o2 ∧ stl 2 W2 o2 = (C, o ++ s)
def A2 (T : Nat → Int32) (N f : Nat) : Prop := ∀ (d a : Nat) (acc : List Int32), 4 * (N - a) + 2 ≤ f → a ≤ N → (∀ p, pp T N f 2 d a acc = .inl p → ∀ C W1 o1 o, dep C = d → low 2 C → stl 2 W1 o1 = (C, o ++ acc) → fin1 (MX T N a false W1 o1) = .inl p) ∧ ∀ e s, pp T N f 2 d a acc = .inr (e, s) → a ≤ e ∧ e ≤ N ∧ skp T N e = e ∧ ¬ cur T N e = 38 ∧ ∀ C W1 o1 o, dep C = d → low 2 C → stl 2 W1 o1 = (C, o ++ acc) → ∃ W2 o2, MX T N a false W1 o1 = MX T N e false W2 o2 ∧ stl 2 W2 o2 = (C, o ++ s)
def A3 (T : Nat → Int32) (N f : Nat) : Prop := ∀ d a : Nat, 4 * (N - a) + 3 ≤ f → (∀ p, pp T N f 3 d a [] = .inl p → ∀ C o, dep C = d → low 1 C → fin1 (MX T N a true C o) = .inl p) ∧ ∀ e s, pp T N f 3 d a [] = .inr (e, s) → a < e ∧ e ≤ N ∧ skp T N e = e ∧ (¬ cur T N e = 38) ∧ (¬ cur T N e = 124) ∧ ∀ C o, dep C = d → low 1 C → ∃ W2 o2, MX T N a true C o = MX T N e false W2 o2 ∧ stl 1 W2 o2 = (C, o ++ s)
def A4 (T : Nat → Int32) (N f : Nat) : Prop := ∀ (d a : Nat) (acc : List Int32), 4 * (N - a) + 2 ≤ f → a ≤ N → skp T N a = a → (¬ cur T N a = 38) → (∀ p, pp T N f 4 d a acc = .inl p → ∀ C W1 o1 o, dep C = d → low 1 C → stl 1 W1 o1 = (C, o ++ acc) → fin1 (MX T N a false W1 o1) = .inl p) ∧ ∀ e s, pp T N f 4 d a acc = .inr (e, s) → a ≤ e ∧ e ≤ N ∧ skp T N e = e ∧ (¬ cur T N e = 38) ∧ (¬ cur T N e = 124) ∧ ∀ C W1 o1 o, dep C = d → low 1 C → stl 1 W1 o1 = (C, o ++ acc) → ∃ W2 o2, MX T N a false W1 o1 = MX T N e false W2 o2 ∧ stl 1 W2 o2 = (C, o ++ s)
theorem low_m {m n : Nat} {C : List Nat} (h : low m C) (h2 : m ≤ n) : low n C := fun x V e => Nat.lt_of_lt_of_le (h x V e) h2
theorem low_c {m x : Nat} {C : List Nat} (h : x < m) : low m (x :: C) := fun y V e => by cases e; exact h
theorem A0s {T : Nat → Int32} {N f : Nat} (h0 : A0 T N f) (h3 : A3 T N f) : A0 T N (f + 1) := by
  intro d a hf
  have hb := skp_b (T := T) (N := N) (a := a)
  rw [pp]
  by_cases c33 : cur T N (skp T N a) = 33
  · have hlt : skp T N a < N := cur_lt (T := T) (fun z => by rw [z] at c33; exact absurd c33 (by decide))
    rw [if_pos c33]
    by_cases hd : d = 8
    · rw [if_pos hd]
      refine ⟨fun p hp W o hW => ?_, fun e s hp => (by cases hp)⟩
      cases hp
      rw [MX_open (Or.inl c33), if_pos (by omega)]
      rfl
    · rw [if_neg hd]
      obtain ⟨i1, i2⟩ := h0 (d + 1) (skp T N a + 1) (by omega)
      cases hq : pp T N f 0 (d + 1) (skp T N a + 1) [] with
      | inl q =>
        refine ⟨fun p hp W o hW => ?_, fun e s hp => (by cases hp)⟩
        cases hp
        rw [MX_open (Or.inl c33), if_neg (by omega), if_pos c33]
        exact i1 q hq _ _ (by rw [dep, if_pos (Or.inr rfl)]; omega)
      | inr q =>
        obtain ⟨e1, s1⟩ := q
        obtain ⟨j1, j2, j3⟩ := i2 e1 s1 hq
        refine ⟨fun p hp => (by cases hp), fun e s hp => ?_⟩
        cases hp
        refine ⟨by omega, j2, fun W o hW => ?_⟩
        rw [MX_open (Or.inl c33), if_neg (by omega), if_pos c33, j3 _ _ (by rw [dep, if_pos (Or.inr rfl)]; omega)]
        rw [stl, if_pos (Nat.le_refl _), List.append_assoc]
        rfl
  · rw [if_neg c33]
    by_cases c40 : cur T N (skp T N a) = 40
    · have hlt : skp T N a < N := cur_lt (T := T) (fun z => by rw [z] at c40; exact absurd c40 (by decide))
      rw [if_pos c40]
      by_cases hd : d = 8
      · rw [if_pos hd]
        refine ⟨fun p hp W o hW => ?_, fun e s hp => (by cases hp)⟩
        cases hp
        rw [MX_open (Or.inr c40), if_pos (by omega)]
        rfl
      · rw [if_neg hd]
        obtain ⟨i1, i2⟩ := h3 (d + 1) (skp T N a + 1) (by omega)
        cases hq : pp T N f 3 (d + 1) (skp T N a + 1) [] with
        | inl q =>
          refine ⟨fun p hp W o hW => ?_, fun e s hp => (by cases hp)⟩
          cases hp
          rw [MX_open (Or.inr c40), if_neg (by omega), if_neg c33]
          exact i1 q hq _ _ (by rw [dep, if_pos (Or.inl rfl)]; omega) (low_c (by omega))
        | inr q =>
          obtain ⟨e1, s1⟩ := q
          obtain ⟨j1, j2, j3, j4, j5, j6⟩ := i2 e1 s1 hq
          simp only
          rw [j3]
          have hnj : ¬ (cur T N (skp T N e1) = 38 ∨ cur T N (skp T N e1) = 124) := by rw [j3]; exact fun z => z.elim j4 j5
          by_cases c41 : cur T N e1 = 41
          · rw [if_pos c41]
            have hlt1 : e1 < N := cur_lt (T := T) (fun z => by rw [z] at c41; exact absurd c41 (by decide))
            refine ⟨fun p hp => (by cases hp), fun e s hp => ?_⟩
            cases hp
            refine ⟨by omega, by omega, fun W o hW => ?_⟩
            obtain ⟨W2, o2, k1, k2⟩ := j6 (0 :: W) o (by rw [dep, if_pos (Or.inl rfl)]; omega) (low_c (by omega))
            rw [MX_open (Or.inr c40), if_neg (by omega), if_neg c33, k1, MX_cl1 hnj (by rw [j3]; exact c41) (x := 0) (V := W) (by rw [k2]), k2, j3]
          · rw [if_neg c41]
            refine ⟨fun p hp W o hW => ?_, fun e s hp => (by cases hp)⟩
            cases hp
            obtain ⟨W2, o2, k1, k2⟩ := j6 (0 :: W) o (by rw [dep, if_pos (Or.inl rfl)]; omega) (low_c (by omega))
            rw [MX_open (Or.inr c40), if_neg (by omega), if_neg c33, k1, MX_end hnj (by rw [j3]; exact c41), j3]
            unfold fin1
            simp only [k2]
            rw [if_neg (by intro z; cases z)]
    · rw [if_neg c40]
      have hn : ¬ (cur T N (skp T N a) = 33 ∨ cur T N (skp T N a) = 40) := fun z => z.elim c33 c40
      cases hat : atm T N (skp T N a) (cur T N (skp T N a)) with
      | none =>
        refine ⟨fun p hp W o hW => ?_, fun e s hp => (by cases hp)⟩
        cases hp
        rw [MX_none hn hat]
        rfl
      | some z =>
        cases z with
        | inl p' =>
          refine ⟨fun p hp W o hW => ?_, fun e s hp => (by cases hp)⟩
          cases hp
          rw [MX_bad hn hat]
          rfl
        | inr q =>
          obtain ⟨e1, x⟩ := q
          have hp1 := atm_pos hat
          have hlt := atm_lt hat
          refine ⟨fun p hp => (by cases hp), fun e s hp => ?_⟩
          cases hp
          exact ⟨by omega, by omega, fun W o hW => MX_atom hn hat⟩
theorem A1s {T : Nat → Int32} {N f : Nat} (h0 : A0 T N f) (h2 : A2 T N f) : A1 T N (f + 1) := by
  intro d a hf
  rw [pp]
  obtain ⟨i1, i2⟩ := h0 d a (by omega)
  cases hq : pp T N f 0 d a [] with
  | inl q =>
    refine ⟨fun p hp C o hC _ => ?_, fun e s hp => (by cases hp)⟩
    cases hp
    exact i1 q hq _ _ hC
  | inr q =>
    obtain ⟨e1, s1⟩ := q
    obtain ⟨j1, j2, j3⟩ := i2 e1 s1 hq
    obtain ⟨k1, k2⟩ := h2 d e1 s1 (by omega) j2
    have hst : ∀ (C : List Nat) (o : List Int32), low 2 C → stl 3 C (o ++ s1) = (C, o ++ s1) := fun C o h => stl_low (low_m h (by omega))
    refine ⟨fun p hp C o hC hl => ?_, fun e s hp => ?_⟩
    · rw [j3 C o hC, hst C o hl]
      exact k1 p hp C C _ o hC hl (stl_low hl)
    · obtain ⟨m1, m2, m3, m4, m5⟩ := k2 e s hp
      refine ⟨by omega, m2, m3, m4, fun C o hC hl => ?_⟩
      rw [j3 C o hC, hst C o hl]
      exact m5 C C _ o hC hl (stl_low hl)
theorem A2s {T : Nat → Int32} {N f : Nat} (h0 : A0 T N f) (h2 : A2 T N f) : A2 T N (f + 1) := by
  intro d a acc hf ha
  have hb := skp_b (T := T) (N := N) (a := a)
  rw [pp]
  by_cases c38 : cur T N (skp T N a) = 38
  · have hlt : skp T N a < N := cur_lt (T := T) (fun z => by rw [z] at c38; exact absurd c38 (by decide))
    rw [if_pos c38]
    obtain ⟨i1, i2⟩ := h0 d (skp T N a + 1) (by omega)
    have hd2 : ∀ C : List Nat, dep C = d → dep (2 :: C) = d := fun C h => by rw [dep, if_neg (by omega)]; omega
    cases hq : pp T N f 0 d (skp T N a + 1) [] with
    | inl q =>
      refine ⟨fun p hp C W1 o1 o hC hl hs => ?_, fun e s hp => (by cases hp)⟩
      cases hp
      rw [MX_join (Or.inl c38), if_pos c38, hs]
      exact i1 q hq _ _ (hd2 C hC)
    | inr q =>
      obtain ⟨e1, s1⟩ := q
      obtain ⟨j1, j2, j3⟩ := i2 e1 s1 hq
      obtain ⟨k1, k2⟩ := h2 d e1 (acc ++ s1 ++ [11000000]) (by omega) j2
      have hgo : ∀ (C W1 : List Nat) (o1 o : List Int32), dep C = d → low 2 C → stl 2 W1 o1 = (C, o ++ acc) → MX T N a false W1 o1 = MX T N e1 false (2 :: C) (o ++ acc ++ s1) ∧ stl 2 (2 :: C) (o ++ acc ++ s1) = (C, o ++ (acc ++ s1 ++ [11000000])) := by
        intro C W1 o1 o hC hl hs
        refine ⟨?_, ?_⟩
        · rw [MX_join (Or.inl c38), if_pos c38, hs, j3 _ _ (hd2 C hC), stl_low (low_c (by omega))]
        · rw [stl, if_pos (Nat.le_refl _), stl_low hl, show opC 2 = 11000000 from rfl]
          simp only [List.append_assoc]
      refine ⟨fun p hp C W1 o1 o hC hl hs => ?_, fun e s hp => ?_⟩
      · obtain ⟨g1, g2⟩ := hgo C W1 o1 o hC hl hs
        rw [g1]
        exact k1 p hp C _ _ o hC hl g2
      · obtain ⟨m1, m2, m3, m4, m5⟩ := k2 e s hp
        refine ⟨by omega, m2, m3, m4, fun C W1 o1 o hC hl hs => ?_⟩
        obtain ⟨g1, g2⟩ := hgo C W1 o1 o hC hl hs
        rw [g1]
        exact m5 C _ _ o hC hl g2
  · rw [if_neg c38]
    refine ⟨fun p hp => (by cases hp), fun e s hp => ?_⟩
    cases hp
    exact ⟨hb.1, by omega, skp_skp, c38, fun C W1 o1 o hC hl hs => ⟨W1, o1, MX_skp.symm, hs⟩⟩
theorem A3s {T : Nat → Int32} {N f : Nat} (h1 : A1 T N f) (h4 : A4 T N f) : A3 T N (f + 1) := by
  intro d a hf
  rw [pp]
  obtain ⟨i1, i2⟩ := h1 d a (by omega)
  cases hq : pp T N f 1 d a [] with
  | inl q =>
    refine ⟨fun p hp C o hC hl => ?_, fun e s hp => (by cases hp)⟩
    cases hp
    exact i1 q hq _ _ hC (low_m hl (by omega))
  | inr q =>
    obtain ⟨e1, s1⟩ := q
    obtain ⟨j1, j2, j3, j4, j5⟩ := i2 e1 s1 hq
    obtain ⟨k1, k2⟩ := h4 d e1 s1 (by omega) j2 j3 j4
    have hst : ∀ (C W2 : List Nat) (o o2 : List Int32), low 1 C → stl 2 W2 o2 = (C, o ++ s1) → stl 1 W2 o2 = (C, o ++ s1) := fun C W2 o o2 hl h => by
      rw [← stl_stl (m := 2) (n := 1) (by omega), h]
      exact stl_low hl
    refine ⟨fun p hp C o hC hl => ?_, fun e s hp => ?_⟩
    · obtain ⟨W2, o2, n1, n2⟩ := j5 C o hC (low_m hl (by omega))
      rw [n1]
      exact k1 p hp C W2 o2 o hC hl (hst C W2 o o2 hl n2)
    · obtain ⟨m1, m2, m3, m4, m5, m6⟩ := k2 e s hp
      refine ⟨by omega, m2, m3, m4, m5, fun C o hC hl => ?_⟩
      obtain ⟨W2, o2, n1, n2⟩ := j5 C o hC (low_m hl (by omega))
      rw [n1]
      exact m6 C W2 o2 o hC hl (hst C W2 o o2 hl n2)
theorem A4s {T : Nat → Int32} {N f : Nat} (h1 : A1 T N f) (h4 : A4 T N f) : A4 T N (f + 1) := by
  intro d a acc hf ha hsk h38
  rw [pp]
  rotate_left
  · intro z; omega
  · intro z; omega
  · intro z; omega
  · intro z; omega
  rw [hsk]
  by_cases c124 : cur T N a = 124
  · have hlt : a < N := cur_lt (T := T) (fun z => by rw [z] at c124; exact absurd c124 (by decide))
    rw [if_pos c124]
    obtain ⟨i1, i2⟩ := h1 d (a + 1) (by omega)
    have hd2 : ∀ C : List Nat, dep C = d → dep (1 :: C) = d := fun C h => by rw [dep, if_neg (by omega)]; omega
    have hjn : ∀ (C W1 : List Nat) (o1 o : List Int32), stl 1 W1 o1 = (C, o ++ acc) → MX T N a false W1 o1 = MX T N (a + 1) true (1 :: C) (o ++ acc) := by
      intro C W1 o1 o hs
      rw [MX_join (Or.inr (by rw [hsk]; exact c124)), hsk, if_neg h38, hs]
    cases hq : pp T N f 1 d (a + 1) [] with
    | inl q =>
      refine ⟨fun p hp C W1 o1 o hC hl hs => ?_, fun e s hp => (by cases hp)⟩
      cases hp
      rw [hjn C W1 o1 o hs]
      exact i1 q hq _ _ (hd2 C hC) (low_c (by omega))
    | inr q =>
      obtain ⟨e1, s1⟩ := q
      obtain ⟨j1, j2, j3, j4, j5⟩ := i2 e1 s1 hq
      obtain ⟨k1, k2⟩ := h4 d e1 (acc ++ s1 ++ [12000000]) (by omega) j2 j3 j4
      have hgo : ∀ (C W1 : List Nat) (o1 o : List Int32), dep C = d → low 1 C → stl 1 W1 o1 = (C, o ++ acc) → ∃ W2 o2, MX T N a false W1 o1 = MX T N e1 false W2 o2 ∧ stl 1 W2 o2 = (C, o ++ (acc ++ s1 ++ [12000000])) := by
        intro C W1 o1 o hC hl hs
        obtain ⟨W2, o2, n1, n2⟩ := j5 (1 :: C) (o ++ acc) (hd2 C hC) (low_c (by omega))
        refine ⟨W2, o2, by rw [hjn C W1 o1 o hs, n1], ?_⟩
        rw [← stl_stl (m := 2) (n := 1) (by omega), n2]
        show stl 1 (1 :: C) (o ++ acc ++ s1) = _
        rw [stl, if_pos (Nat.le_refl _), stl_low hl, show opC 1 = 12000000 from rfl]
        simp only [List.append_assoc]
      refine ⟨fun p hp C W1 o1 o hC hl hs => ?_, fun e s hp => ?_⟩
      · obtain ⟨W2, o2, g1, g2⟩ := hgo C W1 o1 o hC hl hs
        rw [g1]
        exact k1 p hp C _ _ o hC hl g2
      · obtain ⟨m1, m2, m3, m4, m5, m6⟩ := k2 e s hp
        refine ⟨by omega, m2, m3, m4, m5, fun C W1 o1 o hC hl hs => ?_⟩
        obtain ⟨W2, o2, g1, g2⟩ := hgo C W1 o1 o hC hl hs
        rw [g1]
        exact m6 C _ _ o hC hl g2
  · rw [if_neg c124]
    refine ⟨fun p hp => (by cases hp), fun e s hp => ?_⟩
    cases hp
    exact ⟨Nat.le_refl _, ha, hsk, h38, c124, fun C W1 o1 o hC hl hs => ⟨W1, o1, rfl, hs⟩⟩
theorem A_all {T : Nat → Int32} {N : Nat} : ∀ f : Nat, A0 T N f ∧ A1 T N f ∧ A2 T N f ∧ A3 T N f ∧ A4 T N f
  | 0 => ⟨fun d a h => (by omega), fun d a h => (by omega), fun d a acc h => (by omega), fun d a h => (by omega), fun d a acc h => (by omega)⟩
  | f + 1 => by
    obtain ⟨h0, h1, h2, h3, h4⟩ := A_all (T := T) (N := N) f
    exact ⟨A0s h0 h3, A1s h0 h2, A2s h0 h2, A3s h1 h4, A4s h1 h4⟩
/-- both readers read alike -/
theorem ex_pp {T : Nat → Int32} {N a f : Nat} {o : List Int32} (hN : N ≤ 90) (hf : 4 * (N - a) + 3 ≤ f) : ex T N a o = (match pp T N f 3 0 a [] with
    | .inl p => .inl p
    | .inr q => .inr (q.1, o ++ q.2)) := by
  rw [ex_MX hN]
  obtain ⟨i1, i2⟩ := (A_all (T := T) (N := N) f).2.2.2.1 0 a hf
  have hl : low 1 [] := fun x V e => by cases e
  cases hq : pp T N f 3 0 a [] with
  | inl p => exact i1 p hq [] o rfl hl
  | inr q =>
    obtain ⟨e, s⟩ := q
    obtain ⟨j1, j2, j3, j4, j5, j6⟩ := i2 e s hq
    obtain ⟨W2, o2, k1, k2⟩ := j6 [] o rfl hl
    have hnj : ¬ (cur T N (skp T N e) = 38 ∨ cur T N (skp T N e) = 124) := by rw [j3]; exact fun z => z.elim j4 j5
    rw [k1]
    by_cases c41 : cur T N e = 41
    · rw [MX_cl0 hnj (by rw [j3]; exact c41) (by rw [k2]), k2, j3]
      rfl
    · rw [MX_end hnj (by rw [j3]; exact c41), j3]
      unfold fin1
      simp only [k2, if_true]
