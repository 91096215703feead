
/-! the reference: an expression -/
/-- the reader as a machine: a fault's place; or where it stops, what waits, the codes -/
def mx (T : Nat → Int32) (N : Nat) : Nat → Nat → Bool → List Nat → List Int32 → Nat ⊕ (Nat × List Nat × List Int32)
  | 0, a, _, _, _ => .inl a
  | f + 1, a, true, W, o =>
    if cur T N (skp T N a) = 33 ∨ cur T N (skp T N a) = 40 then (if dep W = 8 then .inl (skp T N a) else mx T N f (skp T N a + 1) true ((if cur T N (skp T N a) = 33 then 3 else 0) :: W) o)
    else match atm T N (skp T N a) (cur T N (skp T N a)) with
      | none => .inl (skp T N a)
      | some (.inl p) => .inl p
      | some (.inr q) => mx T N f q.1 false (stl 3 W (o ++ [q.2])).1 (stl 3 W (o ++ [q.2])).2
  | f + 1, a, false, W, o =>
    if cur T N (skp T N a) = 38 ∨ cur T N (skp T N a) = 124 then mx T N f (skp T N a + 1) true ((if cur T N (skp T N a) = 38 then 2 else 1) :: (stl (if cur T N (skp T N a) = 38 then 2 else 1) W o).1) (stl (if cur T N (skp T N a) = 38 then 2 else 1) W o).2
    else if cur T N (skp T N a) = 41 then (match (stl 1 W o).1 with
      | [] => .inr (skp T N a, [], (stl 1 W o).2)
      | _ :: V => mx T N f (skp T N a + 1) false (stl 3 V (stl 1 W o).2).1 (stl 3 V (stl 1 W o).2).2)
    else .inr (skp T N a, W, o)
/-- an expression from a on, behind the codes o -/
def ex (T : Nat → Int32) (N a : Nat) (o : List Int32) : Nat ⊕ (Nat × List Int32) :=
  match mx T N 100 a true [] o with
  | .inl p => .inl p
  | .inr q => if (stl 1 q.2.1 q.2.2).1 = [] then .inr (q.1, (stl 1 q.2.1 q.2.2).2) else .inl q.1
theorem stl_len (m : Nat) : ∀ (W : List Nat) (o : List Int32), (stl m W o).1.length + (stl m W o).2.length = W.length + o.length ∧ (stl m W o).1.length ≤ W.length ∧ ((∀ x ∈ W, x ≤ 3) → ∀ x ∈ (stl m W o).1, x ≤ 3)
  | [], o => ⟨rfl, Nat.le_refl _, fun h => h⟩
  | x :: W, o => by
    rw [stl]
    split
    · obtain ⟨h1, h2, h3⟩ := stl_len m W (o ++ [opC x])
      rw [List.length_append, List.length_singleton] at h1
      rw [List.length_cons]
      exact ⟨by omega, by omega, fun h => h3 (fun y hy => h y (List.mem_cons_of_mem _ hy))⟩
    · exact ⟨rfl, Nat.le_refl _, fun h => h⟩
theorem atm_pos {T : Nat → Int32} {N a e : Nat} {c x : Int32} (h : atm T N a c = some (.inr (e, x))) : a < e ∧ (e ≤ a + 1 ∨ e ≤ N) := by
  unfold atm at h
  cases hk : akd c with
  | none => rw [hk] at h; cases h
  | some q =>
    obtain ⟨k, m⟩ := q
    rw [hk] at h
    cases m with
    | none => cases h; omega
    | some m =>
      simp only at h
      cases hn : nm T N (a + 1) m with
      | inl p => rw [hn] at h; cases h
      | inr q =>
        rw [hn] at h
        cases h
        unfold nm at hn
        split at hn
        · split at hn
          · cases hn
          · cases hn
            have h1 := skp_le (T := T) (N := N) (N - (a + 1)) (a + 1)
            have h2 := nE_le (T := T) (N := N) (N - skp T N (a + 1)) (skp T N (a + 1))
            unfold nE
            rename_i hd _
            have := hd.1
            unfold skp at *
            omega
        · cases hn
theorem cur_lt {T : Nat → Int32} {N a : Nat} (h : ¬ cur T N a = 0) : a < N := by
  unfold cur at h
  split at h
  · assumption
  · exact absurd rfl h
theorem akd_0 : akd 0 = none := by decide
theorem atm_lt {T : Nat → Int32} {N a : Nat} {z : Nat ⊕ (Nat × Int32)} (h : atm T N a (cur T N a) = some z) : a < N := by
  refine cur_lt (T := T) (fun e => ?_)
  rw [e, atm_n akd_0] at h
  cases h
/-- a fault p is noted; the rest of the reader's state is any -/
def FW (σ0 : TS) (p : Nat) (σ : TS) : Prop := ∃ (b : Nat) (W : List Nat) (o : List Int32), b ≤ 300 ∧ PW (tS σ0 10 (nI p)) b W o σ
theorem PW.flt {σ0 σ : TS} {a p : Nat} {W : List Nat} {o : List Int32} (h : PW σ0 a W o σ) (h10 : (σ0.1 10).toInt < 0) : PW (tS σ0 10 (nI p)) a W o (flt σ p) := by
  have e : (σ.1 10).toInt < 0 := by rw [(h.1 10 rfl).1]; exact h10
  unfold _root_.Jvm.Pilot.CSortedPostLaw_law_r3663_2727c6.flt
  rw [if_pos e]
  refine ⟨fun k hk => ?_, h.2⟩
  have := h.1 k hk
  by_cases hk10 : k = 10
  · subst hk10; exact ⟨rfl, this.2⟩
  · rw [tS_1, tS_1, if_neg hk10, if_neg hk10]
    exact this
theorem PW.at {σ0 σ : TS} {a b : Nat} {W : List Nat} {o : List Int32} (h : PW σ0 a W o σ) : PW σ0 b W o (tS σ 9 (nI b)) := ⟨h.1.S rfl _, rfl, h.2.2⟩
theorem PW.put {σ0 σ : TS} {a : Nat} {W : List Nat} {o : List Int32} (h : PW σ0 a W o σ) (hl : o.length + W.length ≤ 160) (x : Int32) : PW σ0 a W (o ++ [x]) (putR σ o.length x) := by
  obtain ⟨h1, h2, h3, h4, h5, h6, h7, h8, h9, h10⟩ := h
  refine ⟨(h1.A rfl _ _).S rfl _, h2, h3, h4, h5, ?_, ?_, h8, h9, ?_⟩
  · rw [List.length_append, List.length_singleton]; rfl
  · have := h7.snoc x
    rw [Nat.zero_add] at this
    exact this
  · rw [List.length_append, List.length_singleton]; omega
