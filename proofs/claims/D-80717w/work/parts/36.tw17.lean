
/-! the reference: the row of what is to come is never long -/
theorem flT_Fr {σ : TS} {l b t : Nat} {f : Int32} : Fr [39, 40, 41, 42, 43, 44] σ (flT σ l b t f).1 := by
  unfold flT
  split
  · split
    · split
      · exact ((((((Fr.rf _ σ).S rfl _).A rfl _ _).A rfl _ _).A rfl _ _).A rfl _ _).S rfl _
      · exact (Fr.rf _ σ).S rfl _
    · exact ((((((Fr.rf _ σ).S rfl _).A rfl _ _).A rfl _ _).A rfl _ _).A rfl _ _).S rfl _
  · exact Fr.rf _ σ
theorem flS_Fr {σ : TS} {l b : Nat} : ∀ t, Fr [39, 40, 41, 42, 43, 44] σ (flS σ l b t).1
  | 0 => Fr.rf _ σ
  | t + 1 => by rw [flS]; exact (flS_Fr t).trans flT_Fr
theorem one_ne : ¬ (1 : Int32) = 0 := by decide
/-- a tray gets one copy at most -/
theorem flT_le {σ : TS} {l b t : Nat} {f : Int32} : (∀ k, ¬ k = 4 * b → ¬ k = 4 * b + t → (flT σ l b t f).1.2 40 k = σ.2 40 k) ∧ (∀ k, (flT σ l b t f).1.2 40 k = σ.2 40 k ∨ (flT σ l b t f).1.2 40 k = σ.2 40 k + 1) ∧ (¬ f = 0 → ¬ t = 0 → (flT σ l b t f).1.2 40 (4 * b) = σ.2 40 (4 * b)) ∧ ((flT σ l b t f).2 = 0 → (flT σ l b t f).1.2 40 (4 * b) = σ.2 40 (4 * b) ∧ (f = 0)) := by
  have e1 : ∀ (x : TS) (j k : Nat) (u v w : Int32), (tS (putC x j u v w) 44 (σ.1 44 + 1)).2 40 k = if k = j then x.2 40 j + 1 else x.2 40 k := fun x j k u v w => putC_40
  unfold flT
  split
  · split
    · rename_i hn
      split
      · rename_i hf
        refine ⟨fun k h1 h2 => ?_, fun k => ?_, fun h => absurd hf h, fun h => absurd h one_ne⟩
        · rw [e1, if_neg h1]; rfl
        · rw [e1]
          by_cases h : k = 4 * b
          · rw [if_pos h, h]; exact Or.inr rfl
          · rw [if_neg h]; exact Or.inl rfl
      · exact ⟨fun k _ _ => rfl, fun k => Or.inl rfl, fun _ _ => rfl, fun h => absurd h one_ne⟩
    · refine ⟨fun k h1 h2 => ?_, fun k => ?_, fun h h0 => ?_, fun h => ?_⟩
      · rw [e1, if_neg h2]; rfl
      · rw [e1]
        by_cases h : k = 4 * b + t
        · rw [if_pos h, h]; exact Or.inr rfl
        · rw [if_neg h]; exact Or.inl rfl
      · rw [e1, if_neg (by omega)]; rfl
      · have hc : ¬ (¬ f = 0 ∨ t = 0) := fun z => by rw [if_pos z] at h; exact one_ne h
        refine ⟨?_, ?_⟩
        · rw [e1, if_neg (fun z => hc (Or.inr (by omega)))]; rfl
        · exact Decidable.of_not_not (fun z => hc (Or.inl z))
  · exact ⟨fun k _ _ => rfl, fun k => Or.inl rfl, fun _ _ => rfl, fun h => ⟨rfl, h⟩⟩
theorem flS_le {σ : TS} {l b : Nat} : ∀ t, (∀ k, ¬ k = 4 * b → 4 * b + t ≤ k ∨ k < 4 * b → (flS σ l b t).1.2 40 k = σ.2 40 k) ∧ (∀ k, (flS σ l b t).1.2 40 k = σ.2 40 k ∨ (flS σ l b t).1.2 40 k = σ.2 40 k + 1) ∧ ((flS σ l b t).2 = 0 → (flS σ l b t).1.2 40 (4 * b) = σ.2 40 (4 * b))
  | 0 => ⟨fun k _ _ => rfl, fun k => Or.inl rfl, fun _ => rfl⟩
  | t + 1 => by
    obtain ⟨i1, i2, i3⟩ := flS_le (σ := σ) (l := l) (b := b) t
    obtain ⟨j1, j2, j3, j4⟩ := flT_le (σ := (flS σ l b t).1) (l := l) (b := b) (t := t) (f := (flS σ l b t).2)
    rw [flS]
    refine ⟨fun k h1 h2 => ?_, fun k => ?_, fun h => ?_⟩
    · rw [j1 k h1 (by omega)]
      exact i1 k h1 (by omega)
    · by_cases hk : k = 4 * b
      · subst hk
        by_cases hf : (flS σ l b t).2 = 0
        · have := j2 (4 * b)
          rw [i3 hf] at this
          exact this
        · by_cases h0 : t = 0
          · subst h0
            exact absurd rfl hf
          · rw [j3 hf h0]
            exact i2 _
      · by_cases hk2 : k = 4 * b + t
        · have e := i1 k hk (by omega)
          have := j2 k
          rw [e] at this
          exact this
        · rw [j1 k hk hk2]
          exact i2 k
    · obtain ⟨a1, a2⟩ := j4 h
      rw [a1]
      exact i3 a2
/-- what comes of one coming at most, with f boxes free -/
def wt (f : Nat) : Nat := if f = 0 then 1 else if f = 1 then 2 else 5
def wE (σ : TS) (i : Nat) : Nat := wt (fr (σ.2 47 i) (Int32.toNatClampNeg (σ.2 46 i)))
def pend (σ : TS) (k : Nat) : Nat → Nat
  | 0 => 0
  | m + 1 => pend σ k m + wE σ (k + m)
theorem wt_pos (f : Nat) : 1 ≤ wt f := by unfold wt; split; omega; split <;> omega
theorem pend_ge {σ : TS} {k : Nat} : ∀ m, m ≤ pend σ k m
  | 0 => Nat.le_refl _
  | m + 1 => by have := pend_ge (σ := σ) (k := k) m; have h := wt_pos (fr (σ.2 47 (k + m)) (Int32.toNatClampNeg (σ.2 46 (k + m)))); rw [pend]; unfold wE; omega
theorem pend_s {σ : TS} {k : Nat} : ∀ m, pend σ k (m + 1) = wE σ k + pend σ (k + 1) m
  | 0 => by rw [pend, pend, pend]; show 0 + wE σ (k + 0) = _; rw [Nat.add_zero]; omega
  | m + 1 => by rw [pend, pend_s m, pend, show k + (m + 1) = k + 1 + m by omega]; omega
theorem pend_congr {σ s : TS} {k : Nat} : ∀ m, (∀ i, i < m → wE s (k + i) = wE σ (k + i)) → pend s k m = pend σ k m
  | 0, _ => rfl
  | m + 1, h => by rw [pend, pend, pend_congr m (fun i hi => h i (by omega)), h m (by omega)]
theorem pend_app {σ : TS} {k a : Nat} : ∀ c, pend σ k (a + c) = pend σ k a + pend σ (k + a) c
  | 0 => rfl
  | c + 1 => by rw [show a + (c + 1) = a + c + 1 by omega, pend, pend_app c, pend, show k + (a + c) = k + a + c by omega]; omega
theorem pend_le {σ : TS} {k w : Nat} : ∀ m, (∀ i, i < m → wE σ (k + i) ≤ w) → pend σ k m ≤ m * w
  | 0, _ => Nat.zero_le _
  | m + 1, h => by
    have h1 := pend_le m (fun i hi => h i (by omega))
    have h2 := h m (by omega)
    rw [pend, Nat.add_mul]
    omega
theorem fr_next {x : Int32} {b o : Nat} (hb : b < 3) (ho : o < 3) (hne : ¬ o = b) (hx : bt x o = false) : fr (x ||| (1 <<< (nI b &&& 31))) o + 1 = fr x b := by
  have key : ∀ p, p < 3 → fr1 (x ||| (1 <<< (nI b &&& 31))) o p = if p = o then 0 else fr1 x b p := by
    intro p hp
    unfold fr1
    rw [b_or, b_one b (by omega) (by omega)]
    by_cases h : p = o
    · rw [if_pos h, if_neg (fun z => z.1 h)]
    · rw [if_neg h]
      by_cases h2 : p = b
      · rw [decide_eq_true h2, Bool.or_true, if_neg (fun z => by cases z.2), if_neg (fun z => z.1 h2)]
      · rw [decide_eq_false h2, Bool.or_false]
        simp only [h, h2, not_false_eq_true, true_and]
  have ho1 : fr1 x b o = 1 := if_pos ⟨hne, hx⟩
  unfold fr
  rw [key 0 (by omega), key 1 (by omega), key 2 (by omega)]
  rcases (by omega : o = 0 ∨ o = 1 ∨ o = 2) with rfl | rfl | rfl <;> simp <;> omega
theorem wt_mul {f : Nat} (h : f ≤ 2) : f * wt (f - 1) + 1 ≤ wt f := by
  rcases (by omega : f = 0 ∨ f = 1 ∨ f = 2) with rfl | rfl | rfl <;> decide
theorem wt_mono {a f : Nat} (h : a ≤ f) (hf : f ≤ 2) : wt a ≤ wt f := by
  rcases (by omega : f = 0 ∨ f = 1 ∨ f = 2) with rfl | rfl | rfl
  · rw [show a = 0 by omega]
    exact Nat.le_refl _
  · rcases (by omega : a = 0 ∨ a = 1) with rfl | rfl <;> decide
  · rcases (by omega : a = 0 ∨ a = 1 ∨ a = 2) with rfl | rfl | rfl <;> decide
