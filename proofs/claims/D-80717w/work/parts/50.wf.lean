
/-! what is read is well formed -/
theorem nE_dg {T : Nat → Int32} {N : Nat} : ∀ (f a i : Nat), a ≤ i → i < nEF T N f a → dgt T N i
  | 0, a, i, h1, h2 => by rw [nEF] at h2; omega
  | f + 1, a, i, h1, h2 => by
    rw [nEF] at h2
    split at h2
    · rename_i hd
      by_cases e : i = a
      · rw [e]; exact hd
      · exact nE_dg f (a + 1) i (by omega) h2
    · omega
theorem nV_b {T : Nat → Int32} {a : Nat} : ∀ k : Nat, k ≤ 5 → (∀ i, i < k → 48 ≤ (T (a + i)).toInt ∧ (T (a + i)).toInt ≤ 57) → 0 ≤ (nV T a k).toInt ∧ (nV T a k).toInt < 10 ^ k
  | 0, _, _ => by rw [nV]; decide
  | k + 1, hk, h => by
    obtain ⟨h1, h2⟩ := nV_b (T := T) (a := a) k (by omega) (fun i hi => h i (by omega))
    obtain ⟨d1, d2⟩ := h k (by omega)
    have h3 : (10 : Int) ^ k ≤ 10000 := by
      rcases (show k = 0 ∨ k = 1 ∨ k = 2 ∨ k = 3 ∨ k = 4 by omega) with rfl | rfl | rfl | rfl | rfl <;> decide
    have e1 : ((10 : Int32) * nV T a k).toInt = 10 * (nV T a k).toInt := i32_mul (by show _ ≤ 10 * _; omega) (by show 10 * _ < _; omega)
    have e2 : ((10 : Int32) * nV T a k + T (a + k)).toInt = 10 * (nV T a k).toInt + (T (a + k)).toInt := by rw [i32_add (by rw [e1]; omega) (by rw [e1]; omega), e1]
    have e3 : ((10 : Int32) * nV T a k + T (a + k) - 48).toInt = 10 * (nV T a k).toInt + (T (a + k)).toInt - 48 := by
      rw [i32_sub (by rw [e2]; show _ ≤ _ - 48; omega) (by rw [e2]; show _ - 48 < _; omega), e2]
      rfl
    rw [nV, e3, Int.pow_succ]
    omega
theorem nm_v {T : Nat → Int32} {N a e : Nat} {m v : Int32} (h : nm T N a m = .inr (e, v)) : 0 ≤ v.toInt ∧ v.toInt ≤ m.toInt := by
  unfold nm at h
  split at h
  · split at h
    · cases h
    · rename_i hn
      cases h
      have hb := nV_b (T := T) (a := skp T N a) (nE T N (skp T N a) - skp T N a) (by omega) (fun i hi => (nE_dg (T := T) (N := N) (N - skp T N a) (skp T N a) (skp T N a + i) (by omega) (by show _ < nE T N (skp T N a); omega)).2)
      omega
  · cases h
theorem akd_b {c k : Int32} {m : Option Int32} (h : akd c = some (k, m)) : (m = none ∧ 4 ≤ k.toInt ∧ k.toInt ≤ 9) ∨ ∃ x, m = some x ∧ 0 ≤ k.toInt ∧ k.toInt ≤ 3 ∧ 0 < x.toInt ∧ x.toInt ≤ 60000 := by
  unfold akd at h
  repeat' split at h
  all_goals (first | (cases h; exact Or.inr ⟨_, rfl, by decide, by decide, by decide, by decide⟩) | (cases h; exact Or.inl ⟨rfl, by decide, by decide⟩) | cases h)
theorem atm_c {T : Nat → Int32} {N a e : Nat} {c x : Int32} (h : atm T N a c = some (.inr (e, x))) : 0 ≤ x.toInt ∧ x.toInt ≤ 9000000 := by
  cases hk : akd c with
  | none => rw [atm_n hk] at h; cases h
  | some q =>
    obtain ⟨k, m⟩ := q
    have hb := akd_b hk
    have em : ((1000000 : Int32) * k).toInt = 1000000 * k.toInt := by
      rcases hb with ⟨-, h1, h2⟩ | ⟨y, -, h1, h2, -⟩
      · exact i32_mul (by show _ ≤ 1000000 * _; omega) (by show 1000000 * _ < _; omega)
      · exact i32_mul (by show _ ≤ 1000000 * _; omega) (by show 1000000 * _ < _; omega)
    cases m with
    | none =>
      rw [atm_0 hk] at h
      cases h
      rcases hb with ⟨-, h1, h2⟩ | ⟨y, h0, -⟩
      · rw [em]; omega
      · cases h0
    | some m =>
      rcases hb with ⟨h0, -⟩ | ⟨y, h0, h1, h2, h3, h4⟩
      · cases h0
      · cases h0
        cases hn : nm T N (a + 1) m with
        | inl p => rw [atm_l hk hn] at h; cases h
        | inr q =>
          obtain ⟨e1, v⟩ := q
          rw [atm_r hk hn] at h
          cases h
          have hv := nm_v hn
          rw [i32_add (by rw [em]; omega) (by rw [em]; omega), em]
          omega
def wk (l : List Int32) : Prop := (∀ n t, wfR (l ++ t) n = wfR t (n + 1)) ∧ ∀ c ∈ l, codeOk c
theorem wk_at {c : Int32} (h : 0 ≤ c.toInt ∧ c.toInt ≤ 9000000) : wk [c] := by
  refine ⟨fun n t => ?_, fun y hy => ?_⟩
  · show wfR (c :: t) n = _
    have n1 : ¬ c = 10000000 := fun z => by rw [z] at h; exact absurd h (by decide)
    have n2 : ¬ (c = 11000000 ∨ c = 12000000) := fun z => by rcases z with z | z <;> (rw [z] at h; exact absurd h (by decide))
    rw [wfR, if_neg n1, if_neg n2]
  · rw [List.mem_singleton] at hy
    rw [hy]
    exact Or.inl h
theorem wk_no {l : List Int32} (h : wk l) : wk (l ++ [10000000]) := by
  refine ⟨fun n t => ?_, fun y hy => ?_⟩
  · rw [List.append_assoc, h.1]
    show wfR (10000000 :: t) (n + 1) = _
    rw [wfR, if_pos rfl, decide_eq_true (by omega), Bool.true_and]
  · rcases List.mem_append.mp hy with hy | hy
    · exact h.2 y hy
    · rw [List.mem_singleton] at hy
      rw [hy]
      exact Or.inr (Or.inl rfl)
theorem wk_bi {l m : List Int32} {x : Int32} (hx : x = 11000000 ∨ x = 12000000) (h : wk l) (h2 : wk m) : wk (l ++ m ++ [x]) := by
  refine ⟨fun n t => ?_, fun y hy => ?_⟩
  · rw [List.append_assoc, List.append_assoc, h.1, h2.1]
    show wfR (x :: t) (n + 1 + 1) = _
    have n1 : ¬ x = 10000000 := fun z => by rw [z] at hx; exact absurd hx (by decide)
    rw [wfR, if_neg n1, if_pos hx, decide_eq_true (by omega), Bool.true_and]
    rfl
  · rcases List.mem_append.mp hy with hy | hy
    · rcases List.mem_append.mp hy with hy | hy
      · exact h.2 y hy
      · exact h2.2 y hy
    · rw [List.mem_singleton] at hy
      rw [hy]
      exact Or.inr (Or.inr hx)
theorem pp_wk {T : Nat → Int32} {N : Nat} : ∀ (f m d a : Nat) (acc : List Int32) (e : Nat) (s : List Int32), (m = 2 ∨ 4 ≤ m → wk acc) → pp T N f m d a acc = .inr (e, s) → wk s
  | 0, m, d, a, acc, e, s, ha, h => by rw [pp] at h; cases h
  | f + 1, 0, d, a, acc, e, s, ha, h => by
    rw [pp] at h
    split at h
    · split at h
      · cases h
      · cases hq : pp T N f 0 (d + 1) (skp T N a + 1) [] with
        | inl q => rw [hq] at h; cases h
        | inr q =>
          rw [hq] at h
          cases h
          exact wk_no (pp_wk f 0 _ _ _ q.1 q.2 (fun z => by omega) hq)
    · split at h
      · split at h
        · cases h
        · cases hq : pp T N f 3 (d + 1) (skp T N a + 1) [] with
          | inl q => rw [hq] at h; cases h
          | inr q =>
            rw [hq] at h
            simp only at h
            split at h
            · cases h
              exact pp_wk f 3 _ _ _ q.1 q.2 (fun z => by omega) hq
            · cases h
      · cases hat : atm T N (skp T N a) (cur T N (skp T N a)) with
        | none => rw [hat] at h; cases h
        | some z =>
          cases z with
          | inl p => rw [hat] at h; cases h
          | inr q =>
            rw [hat] at h
            cases h
            exact wk_at (atm_c (e := q.1) hat)
  | f + 1, 1, d, a, acc, e, s, ha, h => by
    rw [pp] at h
    cases hq : pp T N f 0 d a [] with
    | inl q => rw [hq] at h; cases h
    | inr q =>
      rw [hq] at h
      exact pp_wk f 2 _ _ _ e s (fun _ => pp_wk f 0 _ _ _ q.1 q.2 (fun z => by omega) hq) h
  | f + 1, 2, d, a, acc, e, s, ha, h => by
    rw [pp] at h
    split at h
    · cases hq : pp T N f 0 d (skp T N a + 1) [] with
      | inl q => rw [hq] at h; cases h
      | inr q =>
        rw [hq] at h
        exact pp_wk f 2 _ _ _ e s (fun _ => wk_bi (Or.inl rfl) (ha (Or.inl rfl)) (pp_wk f 0 _ _ _ q.1 q.2 (fun z => by omega) hq)) h
    · cases h
      exact ha (Or.inl rfl)
  | f + 1, 3, d, a, acc, e, s, ha, h => by
    rw [pp] at h
    cases hq : pp T N f 1 d a [] with
    | inl q => rw [hq] at h; cases h
    | inr q =>
      rw [hq] at h
      exact pp_wk f 4 _ _ _ e s (fun _ => pp_wk f 1 _ _ _ q.1 q.2 (fun z => by omega) hq) h
  | f + 1, m + 4, d, a, acc, e, s, ha, h => by
    rw [pp] at h
    rotate_left
    · intro z; omega
    · intro z; omega
    · intro z; omega
    · intro z; omega
    split at h
    · cases hq : pp T N f 1 d (skp T N a + 1) [] with
      | inl q => rw [hq] at h; cases h
      | inr q =>
        rw [hq] at h
        exact pp_wk f 4 _ _ _ e s (fun _ => wk_bi (Or.inr rfl) (ha (Or.inr (by omega))) (pp_wk f 1 _ _ _ q.1 q.2 (fun z => by omega) hq)) h
    · cases h
      exact ha (Or.inr (by omega))
theorem ex_wf {T : Nat → Int32} {N a a1 : Nat} {o o1 : List Int32} (hN : N ≤ 90) (h : ex T N a o = .inr (a1, o1)) : ∃ s, pp T N 400 3 0 a [] = .inr (a1, s) ∧ o1 = o ++ s ∧ wfR s 0 = true ∧ ∀ c ∈ s, codeOk c := by
  rw [ex_pp (f := 400) hN (by omega)] at h
  cases hq : pp T N 400 3 0 a [] with
  | inl q => rw [hq] at h; cases h
  | inr q =>
    rw [hq] at h
    cases h
    have hw := pp_wk 400 3 0 a [] q.1 q.2 (fun z => by omega) hq
    refine ⟨q.2, rfl, rfl, ?_, hw.2⟩
    have := hw.1 0 []
    rw [List.append_nil] at this
    rw [this]
    rfl
theorem acd_b {c k : Int32} {m : Option Int32} (h : acd c = some (k, m)) : (0 ≤ k.toInt ∧ k.toInt ≤ 10) ∧ ∀ x, m = some x → k.toInt ≤ 4 ∧ 0 < x.toInt ∧ x.toInt ≤ 3 := by
  unfold acd at h
  repeat' split at h
  all_goals (first | (cases h; exact ⟨by decide, fun x e => by cases e; decide⟩) | (cases h; exact ⟨by decide, fun x e => by cases e⟩) | cases h)
theorem act1_c {T : Nat → Int32} {N a e : Nat} {x : Int32} (h : act1 T N a = .inr (e, x)) : 0 ≤ x.toInt ∧ x.toInt ≤ 10 := by
  cases hk : acd (cur T N (skp T N a)) with
  | none => rw [act1_n hk] at h; cases h
  | some q =>
    obtain ⟨k, m⟩ := q
    obtain ⟨h1, h2⟩ := acd_b hk
    cases m with
    | none =>
      rw [act1_0 hk] at h
      cases h
      rw [show k + 0 = k from by simp]
      exact h1
    | some m =>
      obtain ⟨h3, h4, h5⟩ := h2 m rfl
      cases hn : nm T N (skp T N a + 1) m with
      | inl p => rw [act1_l hk hn] at h; cases h
      | inr q =>
        obtain ⟨e1, v⟩ := q
        rw [act1_r hk hn] at h
        cases h
        have hv := nm_v hn
        rw [i32_add (by omega) (by omega)]
        omega
theorem alF_c {T : Nat → Int32} {N : Nat} : ∀ (f a : Nat) (acc : List Int32) (e : Nat) (l : List Int32), (∀ x ∈ acc, 0 ≤ x.toInt ∧ x.toInt ≤ 10) → acc.length ≤ 4 → alF T N f a acc = .inr (e, l) → acc.length + f ≤ 4 → (∀ x ∈ l, 0 ≤ x.toInt ∧ x.toInt ≤ 10) ∧ l.length ≤ 4
  | 0, a, acc, e, l, ha, hl, h, hf => by rw [alF] at h; cases h
  | f + 1, a, acc, e, l, ha, hl, h, hf => by
    cases hq : act1 T N a with
    | inl p => rw [alF_l hq] at h; cases h
    | inr q =>
      obtain ⟨e1, x⟩ := q
      have hx := act1_c hq
      have ha' : ∀ y ∈ acc ++ [x], 0 ≤ y.toInt ∧ y.toInt ≤ 10 := by
        intro y hy
        rcases List.mem_append.mp hy with hy | hy
        · exact ha y hy
        · rw [List.mem_singleton] at hy; rw [hy]; exact hx
      have hl' : (acc ++ [x]).length = acc.length + 1 := by rw [List.length_append, List.length_singleton]
      by_cases hc : acc.length + 1 < 4 ∧ cur T N (skp T N e1) = 44
      · rw [alF_m hq hc] at h
        exact alF_c f _ _ e l ha' (by omega) h (by omega)
      · rw [alF_e hq hc] at h
        cases h
        exact ⟨ha', by omega⟩
/-- rules one behind another, six at most: a fault's place, or the rules -/
def rls (T : Nat → Int32) (N : Nat) : Nat → Nat → List Int32 → Rl → Nat ⊕ Rl
  | 0, a, _, _ => .inl a
  | f + 1, a, o, R => match rl T N a o with
    | .inl p => .inl p
    | .inr q => if R.length + 1 < 6 ∧ cur T N q.1 = 59 then rls T N f (q.1 + 1) q.2.1 (R ++ [(q.2.1.drop o.length, q.2.2)]) else if cur T N q.1 = 0 then .inr (R ++ [(q.2.1.drop o.length, q.2.2)]) else .inl q.1
theorem rl_wf {T : Nat → Int32} {N a a1 : Nat} {o o1 ac : List Int32} (hN : N ≤ 90) (h : rl T N a o = .inr (a1, o1, ac)) : ∃ s, o1 = o ++ s ∧ ruleOk (s, ac) := by
  unfold rl at h
  cases hq : ex T N a o with
  | inl q => rw [hq] at h; cases h
  | inr q =>
    obtain ⟨a2, o2⟩ := q
    rw [hq] at h
    simp only at h
    split at h
    · cases hr : alF T N 4 (skp T N a2 + 1) [] with
      | inl p => rw [hr] at h; cases h
      | inr z =>
        rw [hr] at h
        cases h
        obtain ⟨s, h1, h2, h3, h4⟩ := ex_wf hN hq
        have h5 := alF_c 4 _ [] z.1 z.2 (fun x hx => by cases hx) (by decide) hr (by decide)
        exact ⟨s, h2, h3, h4, h5.2, h5.1⟩
    · cases h
