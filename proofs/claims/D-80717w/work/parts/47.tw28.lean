
/-! reading: places -/
theorem skF_stop {T : Nat → Int32} {N : Nat} : ∀ (f a : Nat), N - a ≤ f → ¬ (skF T N f a < N ∧ T (skF T N f a) = 32)
  | 0, a, h => fun z => by have := z.1; rw [skF] at this; omega
  | f + 1, a, h => by
    rw [skF]
    split
    · exact skF_stop f (a + 1) (by omega)
    · assumption
theorem skp_skp {T : Nat → Int32} {N a : Nat} : skp T N (skp T N a) = skp T N a := skp_at (skF_stop (N - a) a (Nat.le_refl _))
theorem skp_b {T : Nat → Int32} {N a : Nat} : a ≤ skp T N a ∧ (skp T N a ≤ a ∨ skp T N a ≤ N) := skp_le (N - a) a
theorem mx_len {T : Nat → Int32} {N : Nat} : ∀ (f a : Nat) (w : Bool) (W : List Nat) (o : List Int32) (a1 : Nat) (W1 : List Nat) (o1 : List Int32), o.length + W.length ≤ a → mx T N f a w W o = .inr (a1, W1, o1) → o1.length + W1.length ≤ a1 ∧ a ≤ a1 ∧ (a1 ≤ a ∨ a1 ≤ N)
  | 0, a, w, W, o, a1, W1, o1, hl, h => by rw [mx] at h; cases h
  | f + 1, a, true, W, o, a1, W1, o1, hl, h => by
    have hb := skp_b (T := T) (N := N) (a := a)
    by_cases hc : cur T N (skp T N a) = 33 ∨ cur T N (skp T N a) = 40
    · have hlt : skp T N a < N := cur_lt (T := T) (fun z => by rw [z] at hc; rcases hc with y | y <;> exact absurd y (by decide))
      rw [mx_open hc] at h
      split at h
      · cases h
      · have := mx_len f _ _ _ _ _ _ _ (by rw [List.length_cons]; omega) h
        omega
    · cases hat : atm T N (skp T N a) (cur T N (skp T N a)) with
      | none => rw [mx_none hc hat] at h; cases h
      | some z =>
        cases z with
        | inl p => rw [mx_bad hc hat] at h; cases h
        | inr q =>
          obtain ⟨e, x⟩ := q
          have hp := atm_pos hat
          have hlt := atm_lt hat
          have hs := stl_len 3 W (o ++ [x])
          rw [List.length_append, List.length_singleton] at hs
          rw [mx_atom hc hat] at h
          simp only at h
          have := mx_len f _ _ _ _ _ _ _ (by omega) h
          omega
  | f + 1, a, false, W, o, a1, W1, o1, hl, h => by
    have hb := skp_b (T := T) (N := N) (a := a)
    by_cases hc : cur T N (skp T N a) = 38 ∨ cur T N (skp T N a) = 124
    · have hlt : skp T N a < N := cur_lt (T := T) (fun z => by rw [z] at hc; rcases hc with y | y <;> exact absurd y (by decide))
      rw [mx_join hc] at h
      have hs := stl_len (if cur T N (skp T N a) = 38 then 2 else 1) W o
      have := mx_len f _ _ _ _ _ _ _ (by rw [List.length_cons]; omega) h
      omega
    · by_cases h41 : cur T N (skp T N a) = 41
      · have hlt : skp T N a < N := cur_lt (T := T) (fun z => by rw [z] at h41; exact absurd h41 (by decide))
        have hs := stl_len 1 W o
        cases hv : (stl 1 W o).1 with
        | nil =>
          rw [mx_cl0 hc h41 hv] at h
          cases h
          rw [List.length_nil]
          omega
        | cons x V =>
          rw [mx_cl1 hc h41 hv] at h
          rw [hv, List.length_cons] at hs
          have hs2 := stl_len 3 V (stl 1 W o).2
          have := mx_len f _ _ _ _ _ _ _ (by omega) h
          omega
      · rw [mx_end hc h41] at h
        cases h
        omega
theorem ex_len {T : Nat → Int32} {N a a1 : Nat} {o o1 : List Int32} (hl : o.length ≤ a) (h : ex T N a o = .inr (a1, o1)) : o1.length ≤ a1 ∧ a ≤ a1 ∧ (a1 ≤ a ∨ a1 ≤ N) := by
  unfold ex at h
  cases hm : mx T N 100 a true [] o with
  | inl p => rw [hm] at h; cases h
  | inr q =>
    obtain ⟨b, W, o2⟩ := q
    rw [hm] at h
    simp only at h
    have h1 := mx_len 100 a true [] o b W o2 (by rw [List.length_nil]; omega) hm
    split at h
    · cases h
      have hs := stl_len 1 W o2
      rename_i hz
      rw [hz, List.length_nil] at hs
      omega
    · cases h
theorem nm_pos {T : Nat → Int32} {N a e : Nat} {m v : Int32} (h : nm T N a m = .inr (e, v)) : a ≤ e ∧ e ≤ N := by
  unfold nm at h
  split at h
  · split at h
    · cases h
    · cases h
      rename_i hd _
      have h1 := skp_le (T := T) (N := N) (N - a) a
      have h2 := nE_le (T := T) (N := N) (N - skp T N a) (skp T N a)
      have := hd.1
      unfold nE
      unfold skp at *
      omega
  · cases h
theorem acd_0 : acd 0 = none := by decide
theorem act1_pos {T : Nat → Int32} {N a e : Nat} {x : Int32} (h : act1 T N a = .inr (e, x)) : a < e ∧ e ≤ N := by
  have hb := skp_b (T := T) (N := N) (a := a)
  cases hk : acd (cur T N (skp T N a)) with
  | none => rw [act1_n hk] at h; cases h
  | some q =>
    obtain ⟨k, m⟩ := q
    have hlt : skp T N a < N := cur_lt (T := T) (fun z => by rw [z, acd_0] at hk; cases hk)
    cases m with
    | none => rw [act1_0 hk] at h; cases h; omega
    | some m =>
      cases hn : nm T N (skp T N a + 1) m with
      | inl p => rw [act1_l hk hn] at h; cases h
      | inr q =>
        obtain ⟨e', v⟩ := q
        rw [act1_r hk hn] at h
        cases h
        have := nm_pos hn
        omega
/-- acts, four at most: where they end (no space there), their codes -/
def alF (T : Nat → Int32) (N : Nat) : Nat → Nat → List Int32 → Nat ⊕ (Nat × List Int32)
  | 0, a, _ => .inl a
  | f + 1, a, acc => match act1 T N a with
    | .inl p => .inl p
    | .inr q => if acc.length + 1 < 4 ∧ cur T N (skp T N q.1) = 44 then alF T N f (skp T N q.1 + 1) (acc ++ [q.2]) else .inr (skp T N q.1, acc ++ [q.2])
/-- a rule from a on, behind the codes o: a fault's place; or where it ends, the codes, its acts -/
def rl (T : Nat → Int32) (N a : Nat) (o : List Int32) : Nat ⊕ (Nat × List Int32 × List Int32) :=
  match ex T N a o with
  | .inl p => .inl p
  | .inr q => if cur T N (skp T N q.1) = 58 then (match alF T N 4 (skp T N q.1 + 1) [] with
      | .inl p => .inl p
      | .inr s => .inr (s.1, q.2, s.2)) else .inl (skp T N q.1)
