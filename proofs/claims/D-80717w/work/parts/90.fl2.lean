
/-! filing: the component's bits -/
theorem bt_mk : ∀ (t : Fin 4) (j : Fin 32), bt ((1 <<< (nI t.val &&& 31)) ^^^ (-1)) j.val = !decide (j.val = t.val) := by decide +kernel
/-- the trays as bits, those that are full looked at up to t -/
def bts (σ : TS) (b : Nat) : Nat → Int32
  | 0 => σ.1 49
  | t + 1 => if 1 ≤ t ∧ bt (σ.1 49) t = true ∧ noneP σ b t then (bts σ b t &&& ((1 <<< (nI t &&& 31)) ^^^ (-1))) ||| 1 else bts σ b t
theorem bts_bt {σ : TS} {b : Nat} : ∀ t, t ≤ 4 → ∀ j, j < 4 → bt (bts σ b t) j = if j = 0 then ptr σ b t 0 else bt (σ.1 49) j && !(decide (j < t) && decide (noneP σ b j))
  | 0, _, j, hj => by
    by_cases e : j = 0
    · rw [if_pos e, e]
      show bt (σ.1 49) 0 = _
      unfold ptr
      simp
    · rw [if_neg e]
      show bt (σ.1 49) j = _
      simp
  | t + 1, ht, j, hj => by
    have ih := bts_bt (σ := σ) (b := b) t (by omega) j hj
    rw [bts]
    by_cases c : 1 ≤ t ∧ bt (σ.1 49) t = true ∧ noneP σ b t
    · rw [if_pos c, b_or, b_and, ih]
      have h1 := bt_1 ⟨j, by omega⟩
      have h2 := bt_mk ⟨t, by omega⟩ ⟨j, by omega⟩
      simp only at h1 h2
      rw [h1, h2]
      by_cases e : j = 0
      · rw [if_pos e, if_pos e, ptr_0, c.2.1, decide_eq_true c.1, decide_eq_true c.2.2, decide_eq_true e]
        simp
      · rw [if_neg e, if_neg e, decide_eq_false e, Bool.or_false]
        by_cases ej : j = t
        · subst ej
          rw [decide_eq_true c.2.2]
          simp
        · have : decide (j < t + 1) = decide (j < t) := by rw [decide_eq_decide]; omega
          rw [this, decide_eq_false ej]
          simp
    · rw [if_neg c, ih]
      by_cases e : j = 0
      · rw [if_pos e, if_pos e, ptr_0]
        have : (decide (1 ≤ t) && bt (σ.1 49) t && decide (noneP σ b t)) = false := by
          cases h1 : decide (1 ≤ t) <;> cases h2 : bt (σ.1 49) t <;> cases h3 : decide (noneP σ b t) <;> try rfl
          exact absurd ⟨of_decide_eq_true h1, h2, of_decide_eq_true h3⟩ c
        rw [this, Bool.or_false]
      · rw [if_neg e, if_neg e]
        by_cases ej : j = t
        · subst ej
          have : bt (σ.1 49) j = false ∨ ¬ noneP σ b j := by
            by_cases q : bt (σ.1 49) j = true
            · exact Or.inr (fun z => c ⟨by omega, q, z⟩)
            · left; cases h : bt (σ.1 49) j; rfl; exact absurd h q
          rcases this with q | q
          · rw [q]; simp
          · rw [decide_eq_false q]; simp
        · have : decide (j < t + 1) = decide (j < t) := by rw [decide_eq_decide]; omega
          rw [this]
theorem bts_4 {σ : TS} {b j : Nat} (hj : j < 4) : bt (bts σ b 4) j = ptr σ b 4 j := by
  rw [bts_bt 4 (Nat.le_refl _) j hj]
  by_cases e : j = 0
  · rw [if_pos e, e]
  · rw [if_neg e]
    unfold ptr
    rw [if_neg e, decide_eq_true hj, Bool.true_and]
