
/-! the reference: cases -/
/-- two atoms' truths that don't go together -/
def barsC (c : Int32) (i j : Nat) (x y : Int32) : Prop := ((¬ i = j ∧ x / 1000000 = 0 ∧ y / 1000000 = 0) ∧ bt1 c i ∧ bt1 c j) ∨ ((x / 1000000 = 3 ∧ y / 1000000 = 3 ∧ x < y) ∧ bt1 c j ∧ ¬ bt1 c i)
def canC (a : List Int32) (c : Int32) : Prop := ∀ (i j : Nat) (x y : Int32), a[i]? = some x → a[j]? = some y → ¬ barsC c i j x y
theorem mX8_isCase {E : gE} {θ : TA} (hθ : tOk θ) {σ : TS} {a : List Int32} (ha : AL (σ.2 59) 0 a) (h60 : σ.1 60 = nI a.length) (hl : a.length ≤ 180) {c : Int32} : TMi E θ σ yX8_isCase cX8_isCase 8 .boolean 0 [.int c] (fun z σ' => Tz (canC a c) z ∧ σ' = σ) := by
  refine TMi.of (by decide) (Nat.le_of_ble_eq_true rfl) ?_
  rintro κ rfl hL hκ hr
  have hat : ∀ i : Nat, i < a.length → a[i]? = some (σ.2 59 i) := fun i h => by have := ha i h; rwa [Nat.zero_add] at this
  have outer : ∀ (m i : Nat) (o3 o4 o5 o6 o7 : Option Value), loOk [some (.ref θ.1), some (.int c), some (.int (nI i)), o3, o4, o5, o6, o7] 4 = true → loOk [some (.ref θ.1), some (.int c), some (.int (nI i)), o3, o4, o5, o6, o7] 5 = true → loOk [some (.ref θ.1), some (.int c), some (.int (nI i)), o3, o4, o5, o6, o7] 6 = true → loOk [some (.ref θ.1), some (.int c), some (.int (nI i)), o3, o4, o5, o6, o7] 7 = true → i ≤ a.length → a.length - i < m → (∀ (k j : Nat) (x y : Int32), k < i → a[k]? = some x → a[j]? = some y → ¬ barsC c k j x y) → X κ (tG (kE κ) θ σ) 0 0 2 [some (.ref θ.1), some (.int c), some (.int (nI i)), o3, o4, o5, o6, o7] [] := by
    intro m
    induction m with
    | zero => intro i o3 o4 o5 o6 o7 _ _ _ _ h1 h2; exact absurd h2 (Nat.not_lt_zero _)
    | succ m ih =>
      intro i o3 o4 o5 o6 o7 l4 l5 l6 l7 hi hm hdone
      have inner : i < a.length → ∀ (n j : Nat) (o4 o5 o6 o7 : Option Value), loOk [some (.ref θ.1), some (.int c), some (.int (nI i)), some (.int (nI j)), o4, o5, o6, o7] 5 = true → loOk [some (.ref θ.1), some (.int c), some (.int (nI i)), some (.int (nI j)), o4, o5, o6, o7] 6 = true → loOk [some (.ref θ.1), some (.int c), some (.int (nI i)), some (.int (nI j)), o4, o5, o6, o7] 7 = true → j ≤ a.length → a.length - j < n → (∀ (k : Nat) (x y : Int32), k < j → a[i]? = some x → a[k]? = some y → ¬ barsC c i k x y) → X κ (tG (kE κ) θ σ) 0 0 12 [some (.ref θ.1), some (.int c), some (.int (nI i)), some (.int (nI j)), o4, o5, o6, o7] [] := by
        intro hil n
        induction n with
        | zero => intro j o4 o5 o6 o7 _ _ _ h1 h2; exact absurd h2 (Nat.not_lt_zero _)
        | succ n ih2 =>
          intro j o4 o5 o6 o7 k5 k6 k7 hj hn hdj
          have xi := hat i hil
          have J136 : ∀ (za zb zf zs : Int32), j < a.length → Tz (bt1 c i) za → Tz (bt1 c j) zb → Tz (¬ i = j ∧ σ.2 59 i / 1000000 = 0 ∧ σ.2 59 j / 1000000 = 0) zf → Tz (σ.2 59 i / 1000000 = 3 ∧ σ.2 59 j / 1000000 = 3 ∧ σ.2 59 i < σ.2 59 j) zs → X κ (tG (kE κ) θ σ) 0 0 136 [some (.ref θ.1), some (.int c), some (.int (nI i)), some (.int (nI j)), some (.int za), some (.int zb), some (.int zf), some (.int zs)] [] := by
            intro za zb zf zs hjl ta tb tf ts
            have xj := hat j hjl
            have no : barsC c i j (σ.2 59 i) (σ.2 59 j) → ¬ canC a c := fun h z => z i j _ _ xi xj h
            have ok : ¬ barsC c i j (σ.2 59 i) (σ.2 59 j) → ∀ (k : Nat) (x y : Int32), k < j + 1 → a[i]? = some x → a[k]? = some y → ¬ barsC c i k x y := fun h k x y hk hx hy => by
              rcases (by omega : k < j ∨ k = j) with z | z
              · exact hdj k x y z hx hy
              · subst z
                rw [xi] at hx
                rw [xj] at hy
                cases hx; cases hy
                exact h
            refine x_iload hκ dX8_isCase_136 rfl ?_
            refine x_if_eq (tgt := 151) hκ dX8_isCase_138 (by decide) (fun c138 => ?_) (fun c138 => ?_)
            · -- X8_isCase 138T
              have i138 := c138
              simp (disch := omega) only [i32_lt, i32_le, i32_eq, Int32.reduceToInt, nI_toInt] at i138
              refine x_iload hκ dX8_isCase_151 rfl ?_
              refine x_if_eq (tgt := 168) hκ dX8_isCase_153 (by decide) (fun c153 => ?_) (fun c153 => ?_)
              · -- X8_isCase 153T
                have i153 := c153
                simp (disch := omega) only [i32_lt, i32_le, i32_eq, Int32.reduceToInt, nI_toInt] at i153
                refine x_iincN (y := 1) hκ dX8_isCase_168 (by decide) rfl (by rw [hL]; decide) rfl (by (try simp (disch := omega) only [tS_1, tS_2, tA_1, tA_2, tF_1, tF_2, xl_0, xl_1, xl_2, Nat.reduceEqDiff, ↓reduceIte, nI_add, nI_1, nm_2, nm_3, nm_4, nm_6, nm_7, nm_8, nm_12, nm_16, nm_24, nm_40, nm_180, nm_300, nm_10210, na_0, na_2, na_3, na_4, na_5, na_6, na_7, na_8, nm_p, nm_m, nI_clamp]); exact rfl) ?_
                refine x_goto (tgt := 12) hκ dX8_isCase_171 (by decide) ?_
                exact ih2 (j + 1) _ _ _ _ rfl rfl rfl (by omega) (by omega) (ok (by rintro (⟨z1, z2, z3⟩ | ⟨z1, z2, z3⟩) <;> first | exact absurd z1 (tf.f (by assumption)) | exact absurd z2 (ta.f (by assumption)) | exact absurd z3 (tb.f (by assumption)) | exact absurd z1 (ts.f (by assumption)) | exact absurd z2 (tb.f (by assumption)) | exact absurd (ta.t (by assumption)) z3))
              · -- X8_isCase 153F
                have i153 := c153
                simp (disch := omega) only [i32_lt, i32_le, i32_eq, Int32.reduceToInt, nI_toInt] at i153
                refine x_iload hκ dX8_isCase_156 rfl ?_
                refine x_if_eq (tgt := 168) hκ dX8_isCase_158 (by decide) (fun c158 => ?_) (fun c158 => ?_)
                · -- X8_isCase 158T
                  have i158 := c158
                  simp (disch := omega) only [i32_lt, i32_le, i32_eq, Int32.reduceToInt, nI_toInt] at i158
                  refine x_iincN (y := 1) hκ dX8_isCase_168 (by decide) rfl (by rw [hL]; decide) rfl (by (try simp (disch := omega) only [tS_1, tS_2, tA_1, tA_2, tF_1, tF_2, xl_0, xl_1, xl_2, Nat.reduceEqDiff, ↓reduceIte, nI_add, nI_1, nm_2, nm_3, nm_4, nm_6, nm_7, nm_8, nm_12, nm_16, nm_24, nm_40, nm_180, nm_300, nm_10210, na_0, na_2, na_3, na_4, na_5, na_6, na_7, na_8, nm_p, nm_m, nI_clamp]); exact rfl) ?_
                  refine x_goto (tgt := 12) hκ dX8_isCase_171 (by decide) ?_
                  exact ih2 (j + 1) _ _ _ _ rfl rfl rfl (by omega) (by omega) (ok (by rintro (⟨z1, z2, z3⟩ | ⟨z1, z2, z3⟩) <;> first | exact absurd z1 (tf.f (by assumption)) | exact absurd z2 (ta.f (by assumption)) | exact absurd z3 (tb.f (by assumption)) | exact absurd z1 (ts.f (by assumption)) | exact absurd z2 (tb.f (by assumption)) | exact absurd (ta.t (by assumption)) z3))
                · -- X8_isCase 158F
                  have i158 := c158
                  simp (disch := omega) only [i32_lt, i32_le, i32_eq, Int32.reduceToInt, nI_toInt] at i158
                  refine x_iload hκ dX8_isCase_161 rfl ?_
                  refine x_if_ne (tgt := 168) hκ dX8_isCase_163 (by decide) (fun c163 => ?_) (fun c163 => ?_)
                  · -- X8_isCase 163T
                    have i163 := c163
                    simp (disch := omega) only [i32_lt, i32_le, i32_eq, Int32.reduceToInt, nI_toInt] at i163
                    refine x_iincN (y := 1) hκ dX8_isCase_168 (by decide) rfl (by rw [hL]; decide) rfl (by (try simp (disch := omega) only [tS_1, tS_2, tA_1, tA_2, tF_1, tF_2, xl_0, xl_1, xl_2, Nat.reduceEqDiff, ↓reduceIte, nI_add, nI_1, nm_2, nm_3, nm_4, nm_6, nm_7, nm_8, nm_12, nm_16, nm_24, nm_40, nm_180, nm_300, nm_10210, na_0, na_2, na_3, na_4, na_5, na_6, na_7, na_8, nm_p, nm_m, nI_clamp]); exact rfl) ?_
                    refine x_goto (tgt := 12) hκ dX8_isCase_171 (by decide) ?_
                    exact ih2 (j + 1) _ _ _ _ rfl rfl rfl (by omega) (by omega) (ok (by rintro (⟨z1, z2, z3⟩ | ⟨z1, z2, z3⟩) <;> first | exact absurd z1 (tf.f (by assumption)) | exact absurd z2 (ta.f (by assumption)) | exact absurd z3 (tb.f (by assumption)) | exact absurd z1 (ts.f (by assumption)) | exact absurd z2 (tb.f (by assumption)) | exact absurd (ta.t (by assumption)) z3))
                  · -- X8_isCase 163F
                    have i163 := c163
                    simp (disch := omega) only [i32_lt, i32_le, i32_eq, Int32.reduceToInt, nI_toInt] at i163
                    refine x_iconst (v := 0) hκ dX8_isCase_166 (by decide) ?_
                    refine t_retz hκ hr rfl dX8_isCase_167 (by first | exact Or.inl rfl | exact Or.inr rfl | assumption) ?_
                    exact ⟨Tz0 (no (Or.inr ⟨ts.t c153, tb.t c158, ta.f c163⟩)), rfl⟩
            · -- X8_isCase 138F
              have i138 := c138
              simp (disch := omega) only [i32_lt, i32_le, i32_eq, Int32.reduceToInt, nI_toInt] at i138
              refine x_iload hκ dX8_isCase_141 rfl ?_
              refine x_if_eq (tgt := 151) hκ dX8_isCase_143 (by decide) (fun c143 => ?_) (fun c143 => ?_)
              · -- X8_isCase 143T
                have i143 := c143
                simp (disch := omega) only [i32_lt, i32_le, i32_eq, Int32.reduceToInt, nI_toInt] at i143
                refine x_iload hκ dX8_isCase_151 rfl ?_
                refine x_if_eq (tgt := 168) hκ dX8_isCase_153 (by decide) (fun c153 => ?_) (fun c153 => ?_)
                · -- X8_isCase 153T
                  have i153 := c153
                  simp (disch := omega) only [i32_lt, i32_le, i32_eq, Int32.reduceToInt, nI_toInt] at i153
                  refine x_iincN (y := 1) hκ dX8_isCase_168 (by decide) rfl (by rw [hL]; decide) rfl (by (try simp (disch := omega) only [tS_1, tS_2, tA_1, tA_2, tF_1, tF_2, xl_0, xl_1, xl_2, Nat.reduceEqDiff, ↓reduceIte, nI_add, nI_1, nm_2, nm_3, nm_4, nm_6, nm_7, nm_8, nm_12, nm_16, nm_24, nm_40, nm_180, nm_300, nm_10210, na_0, na_2, na_3, na_4, na_5, na_6, na_7, na_8, nm_p, nm_m, nI_clamp]); exact rfl) ?_
                  refine x_goto (tgt := 12) hκ dX8_isCase_171 (by decide) ?_
                  exact ih2 (j + 1) _ _ _ _ rfl rfl rfl (by omega) (by omega) (ok (by rintro (⟨z1, z2, z3⟩ | ⟨z1, z2, z3⟩) <;> first | exact absurd z1 (tf.f (by assumption)) | exact absurd z2 (ta.f (by assumption)) | exact absurd z3 (tb.f (by assumption)) | exact absurd z1 (ts.f (by assumption)) | exact absurd z2 (tb.f (by assumption)) | exact absurd (ta.t (by assumption)) z3))
                · -- X8_isCase 153F
                  have i153 := c153
                  simp (disch := omega) only [i32_lt, i32_le, i32_eq, Int32.reduceToInt, nI_toInt] at i153
                  refine x_iload hκ dX8_isCase_156 rfl ?_
                  refine x_if_eq (tgt := 168) hκ dX8_isCase_158 (by decide) (fun c158 => ?_) (fun c158 => ?_)
                  · -- X8_isCase 158T
                    have i158 := c158
                    simp (disch := omega) only [i32_lt, i32_le, i32_eq, Int32.reduceToInt, nI_toInt] at i158
                    refine x_iincN (y := 1) hκ dX8_isCase_168 (by decide) rfl (by rw [hL]; decide) rfl (by (try simp (disch := omega) only [tS_1, tS_2, tA_1, tA_2, tF_1, tF_2, xl_0, xl_1, xl_2, Nat.reduceEqDiff, ↓reduceIte, nI_add, nI_1, nm_2, nm_3, nm_4, nm_6, nm_7, nm_8, nm_12, nm_16, nm_24, nm_40, nm_180, nm_300, nm_10210, na_0, na_2, na_3, na_4, na_5, na_6, na_7, na_8, nm_p, nm_m, nI_clamp]); exact rfl) ?_
                    refine x_goto (tgt := 12) hκ dX8_isCase_171 (by decide) ?_
                    exact ih2 (j + 1) _ _ _ _ rfl rfl rfl (by omega) (by omega) (ok (by rintro (⟨z1, z2, z3⟩ | ⟨z1, z2, z3⟩) <;> first | exact absurd z1 (tf.f (by assumption)) | exact absurd z2 (ta.f (by assumption)) | exact absurd z3 (tb.f (by assumption)) | exact absurd z1 (ts.f (by assumption)) | exact absurd z2 (tb.f (by assumption)) | exact absurd (ta.t (by assumption)) z3))
                  · -- X8_isCase 158F
                    have i158 := c158
                    simp (disch := omega) only [i32_lt, i32_le, i32_eq, Int32.reduceToInt, nI_toInt] at i158
                    refine x_iload hκ dX8_isCase_161 rfl ?_
                    refine x_if_ne (tgt := 168) hκ dX8_isCase_163 (by decide) (fun c163 => ?_) (fun c163 => ?_)
                    · -- X8_isCase 163T
                      have i163 := c163
                      simp (disch := omega) only [i32_lt, i32_le, i32_eq, Int32.reduceToInt, nI_toInt] at i163
                      refine x_iincN (y := 1) hκ dX8_isCase_168 (by decide) rfl (by rw [hL]; decide) rfl (by (try simp (disch := omega) only [tS_1, tS_2, tA_1, tA_2, tF_1, tF_2, xl_0, xl_1, xl_2, Nat.reduceEqDiff, ↓reduceIte, nI_add, nI_1, nm_2, nm_3, nm_4, nm_6, nm_7, nm_8, nm_12, nm_16, nm_24, nm_40, nm_180, nm_300, nm_10210, na_0, na_2, na_3, na_4, na_5, na_6, na_7, na_8, nm_p, nm_m, nI_clamp]); exact rfl) ?_
                      refine x_goto (tgt := 12) hκ dX8_isCase_171 (by decide) ?_
                      exact ih2 (j + 1) _ _ _ _ rfl rfl rfl (by omega) (by omega) (ok (by rintro (⟨z1, z2, z3⟩ | ⟨z1, z2, z3⟩) <;> first | exact absurd z1 (tf.f (by assumption)) | exact absurd z2 (ta.f (by assumption)) | exact absurd z3 (tb.f (by assumption)) | exact absurd z1 (ts.f (by assumption)) | exact absurd z2 (tb.f (by assumption)) | exact absurd (ta.t (by assumption)) z3))
                    · -- X8_isCase 163F
                      have i163 := c163
                      simp (disch := omega) only [i32_lt, i32_le, i32_eq, Int32.reduceToInt, nI_toInt] at i163
                      refine x_iconst (v := 0) hκ dX8_isCase_166 (by decide) ?_
                      refine t_retz hκ hr rfl dX8_isCase_167 (by first | exact Or.inl rfl | exact Or.inr rfl | assumption) ?_
                      exact ⟨Tz0 (no (Or.inr ⟨ts.t c153, tb.t c158, ta.f c163⟩)), rfl⟩
              · -- X8_isCase 143F
                have i143 := c143
                simp (disch := omega) only [i32_lt, i32_le, i32_eq, Int32.reduceToInt, nI_toInt] at i143
                refine x_iload hκ dX8_isCase_146 rfl ?_
                refine x_if_ne (tgt := 166) hκ dX8_isCase_148 (by decide) (fun c148 => ?_) (fun c148 => ?_)
                · -- X8_isCase 148T
                  have i148 := c148
                  simp (disch := omega) only [i32_lt, i32_le, i32_eq, Int32.reduceToInt, nI_toInt] at i148
                  refine x_iconst (v := 0) hκ dX8_isCase_166 (by decide) ?_
                  refine t_retz hκ hr rfl dX8_isCase_167 (by first | exact Or.inl rfl | exact Or.inr rfl | assumption) ?_
                  exact ⟨Tz0 (no (Or.inl ⟨tf.t c138, ta.t c143, tb.t c148⟩)), rfl⟩
                · -- X8_isCase 148F
                  have i148 := c148
                  simp (disch := omega) only [i32_lt, i32_le, i32_eq, Int32.reduceToInt, nI_toInt] at i148
                  refine x_iload hκ dX8_isCase_151 rfl ?_
                  refine x_if_eq (tgt := 168) hκ dX8_isCase_153 (by decide) (fun c153 => ?_) (fun c153 => ?_)
                  · -- X8_isCase 153T
                    have i153 := c153
                    simp (disch := omega) only [i32_lt, i32_le, i32_eq, Int32.reduceToInt, nI_toInt] at i153
                    refine x_iincN (y := 1) hκ dX8_isCase_168 (by decide) rfl (by rw [hL]; decide) rfl (by (try simp (disch := omega) only [tS_1, tS_2, tA_1, tA_2, tF_1, tF_2, xl_0, xl_1, xl_2, Nat.reduceEqDiff, ↓reduceIte, nI_add, nI_1, nm_2, nm_3, nm_4, nm_6, nm_7, nm_8, nm_12, nm_16, nm_24, nm_40, nm_180, nm_300, nm_10210, na_0, na_2, na_3, na_4, na_5, na_6, na_7, na_8, nm_p, nm_m, nI_clamp]); exact rfl) ?_
                    refine x_goto (tgt := 12) hκ dX8_isCase_171 (by decide) ?_
                    exact ih2 (j + 1) _ _ _ _ rfl rfl rfl (by omega) (by omega) (ok (by rintro (⟨z1, z2, z3⟩ | ⟨z1, z2, z3⟩) <;> first | exact absurd z1 (tf.f (by assumption)) | exact absurd z2 (ta.f (by assumption)) | exact absurd z3 (tb.f (by assumption)) | exact absurd z1 (ts.f (by assumption)) | exact absurd z2 (tb.f (by assumption)) | exact absurd (ta.t (by assumption)) z3))
                  · -- X8_isCase 153F
                    have i153 := c153
                    simp (disch := omega) only [i32_lt, i32_le, i32_eq, Int32.reduceToInt, nI_toInt] at i153
                    refine x_iload hκ dX8_isCase_156 rfl ?_
                    refine x_if_eq (tgt := 168) hκ dX8_isCase_158 (by decide) (fun c158 => ?_) (fun c158 => ?_)
                    · -- X8_isCase 158T
                      have i158 := c158
                      simp (disch := omega) only [i32_lt, i32_le, i32_eq, Int32.reduceToInt, nI_toInt] at i158
                      refine x_iincN (y := 1) hκ dX8_isCase_168 (by decide) rfl (by rw [hL]; decide) rfl (by (try simp (disch := omega) only [tS_1, tS_2, tA_1, tA_2, tF_1, tF_2, xl_0, xl_1, xl_2, Nat.reduceEqDiff, ↓reduceIte, nI_add, nI_1, nm_2, nm_3, nm_4, nm_6, nm_7, nm_8, nm_12, nm_16, nm_24, nm_40, nm_180, nm_300, nm_10210, na_0, na_2, na_3, na_4, na_5, na_6, na_7, na_8, nm_p, nm_m, nI_clamp]); exact rfl) ?_
                      refine x_goto (tgt := 12) hκ dX8_isCase_171 (by decide) ?_
                      exact ih2 (j + 1) _ _ _ _ rfl rfl rfl (by omega) (by omega) (ok (by rintro (⟨z1, z2, z3⟩ | ⟨z1, z2, z3⟩) <;> first | exact absurd z1 (tf.f (by assumption)) | exact absurd z2 (ta.f (by assumption)) | exact absurd z3 (tb.f (by assumption)) | exact absurd z1 (ts.f (by assumption)) | exact absurd z2 (tb.f (by assumption)) | exact absurd (ta.t (by assumption)) z3))
                    · -- X8_isCase 158F
                      have i158 := c158
                      simp (disch := omega) only [i32_lt, i32_le, i32_eq, Int32.reduceToInt, nI_toInt] at i158
                      refine x_iload hκ dX8_isCase_161 rfl ?_
                      refine x_if_ne (tgt := 168) hκ dX8_isCase_163 (by decide) (fun c163 => ?_) (fun c163 => ?_)
                      · -- X8_isCase 163T
                        have i163 := c163
                        simp (disch := omega) only [i32_lt, i32_le, i32_eq, Int32.reduceToInt, nI_toInt] at i163
                        refine x_iincN (y := 1) hκ dX8_isCase_168 (by decide) rfl (by rw [hL]; decide) rfl (by (try simp (disch := omega) only [tS_1, tS_2, tA_1, tA_2, tF_1, tF_2, xl_0, xl_1, xl_2, Nat.reduceEqDiff, ↓reduceIte, nI_add, nI_1, nm_2, nm_3, nm_4, nm_6, nm_7, nm_8, nm_12, nm_16, nm_24, nm_40, nm_180, nm_300, nm_10210, na_0, na_2, na_3, na_4, na_5, na_6, na_7, na_8, nm_p, nm_m, nI_clamp]); exact rfl) ?_
                        refine x_goto (tgt := 12) hκ dX8_isCase_171 (by decide) ?_
                        exact ih2 (j + 1) _ _ _ _ rfl rfl rfl (by omega) (by omega) (ok (by rintro (⟨z1, z2, z3⟩ | ⟨z1, z2, z3⟩) <;> first | exact absurd z1 (tf.f (by assumption)) | exact absurd z2 (ta.f (by assumption)) | exact absurd z3 (tb.f (by assumption)) | exact absurd z1 (ts.f (by assumption)) | exact absurd z2 (tb.f (by assumption)) | exact absurd (ta.t (by assumption)) z3))
                      · -- X8_isCase 163F
                        have i163 := c163
                        simp (disch := omega) only [i32_lt, i32_le, i32_eq, Int32.reduceToInt, nI_toInt] at i163
                        refine x_iconst (v := 0) hκ dX8_isCase_166 (by decide) ?_
                        refine t_retz hκ hr rfl dX8_isCase_167 (by first | exact Or.inl rfl | exact Or.inr rfl | assumption) ?_
                        exact ⟨Tz0 (no (Or.inr ⟨ts.t c153, tb.t c158, ta.f c163⟩)), rfl⟩
          have J88 : ∀ (za zb zf : Int32) (o7 : Option Value), j < a.length → Tz (bt1 c i) za → Tz (bt1 c j) zb → Tz (¬ i = j ∧ σ.2 59 i / 1000000 = 0 ∧ σ.2 59 j / 1000000 = 0) zf → X κ (tG (kE κ) θ σ) 0 0 88 [some (.ref θ.1), some (.int c), some (.int (nI i)), some (.int (nI j)), some (.int za), some (.int zb), some (.int zf), o7] [] := by
            intro za zb zf o7 hjl ta tb tf
            refine x_aload_n hκ dX8_isCase_88 rfl ?_
            refine t_getA hκ fl8_59 (by decide) (by decide) rfl dX8_isCase_89 ?_
            refine x_iload_n hκ dX8_isCase_92 rfl ?_
            refine t_iald (n := 180) hκ hθ (by decide) rfl rfl (by first | ((with_reducible refine vp_in_nI ?_ ?_) <;> omega) | exact i32_in (by omega) (by omega) | exact i32_in' (by simp only [Int32.toInt_add, Int32.toInt_mul, Int32.toInt_sub, Int32.reduceToInt, Int.bmod_add_bmod, Int.bmod_sub_bmod, Int.add_bmod_bmod, Int.sub_bmod_bmod, Int.bmod_mul_bmod, Int.mul_bmod_bmod]; exact i32_bm (by omega) (by omega)) (by omega) (by omega) | exact i32_in (by decide) (by decide)) (by (try simp (disch := omega) only [tS_1, tS_2, tA_1, tA_2, tF_1, tF_2, xl_0, xl_1, xl_2, Nat.reduceEqDiff, ↓reduceIte, nI_add, nI_1, nm_2, nm_3, nm_4, nm_6, nm_7, nm_8, nm_12, nm_16, nm_24, nm_40, nm_180, nm_300, nm_10210, na_0, na_2, na_3, na_4, na_5, na_6, na_7, na_8, nm_p, nm_m, nI_clamp]); exact rfl) dX8_isCase_93 ?_
            refine x_ldc hκ q1391 dX8_isCase_94 ?_
            refine x_idiv hκ dX8_isCase_96 (by decide) ?_
            refine x_iconst (v := 3) hκ dX8_isCase_97 (by decide) ?_
            refine x_icmp_ne (tgt := 133) hκ dX8_isCase_98 (by decide) (fun c98 => ?_) (fun c98 => ?_)
            · -- X8_isCase 98T
              have i98 := c98
              simp (disch := omega) only [i32_lt, i32_le, i32_eq, Int32.reduceToInt, nI_toInt] at i98
              refine x_iconst (v := 0) hκ dX8_isCase_133 (by decide) ?_
              refine x_istore hκ dX8_isCase_134 (by rw [hL]; decide) rfl ?_
              exact J136 za zb zf 0 hjl ta tb tf (Tz0 (fun z => c98 z.1))
            · -- X8_isCase 98F
              have i98 := c98
              simp (disch := omega) only [i32_lt, i32_le, i32_eq, Int32.reduceToInt, nI_toInt] at i98
              refine x_aload_n hκ dX8_isCase_101 rfl ?_
              refine t_getA hκ fl8_59 (by decide) (by decide) rfl dX8_isCase_102 ?_
              refine x_iload_n hκ dX8_isCase_105 rfl ?_
              refine t_iald (n := 180) hκ hθ (by decide) rfl rfl (by first | ((with_reducible refine vp_in_nI ?_ ?_) <;> omega) | exact i32_in (by omega) (by omega) | exact i32_in' (by simp only [Int32.toInt_add, Int32.toInt_mul, Int32.toInt_sub, Int32.reduceToInt, Int.bmod_add_bmod, Int.bmod_sub_bmod, Int.add_bmod_bmod, Int.sub_bmod_bmod, Int.bmod_mul_bmod, Int.mul_bmod_bmod]; exact i32_bm (by omega) (by omega)) (by omega) (by omega) | exact i32_in (by decide) (by decide)) (by (try simp (disch := omega) only [tS_1, tS_2, tA_1, tA_2, tF_1, tF_2, xl_0, xl_1, xl_2, Nat.reduceEqDiff, ↓reduceIte, nI_add, nI_1, nm_2, nm_3, nm_4, nm_6, nm_7, nm_8, nm_12, nm_16, nm_24, nm_40, nm_180, nm_300, nm_10210, na_0, na_2, na_3, na_4, na_5, na_6, na_7, na_8, nm_p, nm_m, nI_clamp]); exact rfl) dX8_isCase_106 ?_
              refine x_ldc hκ q1391 dX8_isCase_107 ?_
              refine x_idiv hκ dX8_isCase_109 (by decide) ?_
              refine x_iconst (v := 3) hκ dX8_isCase_110 (by decide) ?_
              refine x_icmp_ne (tgt := 133) hκ dX8_isCase_111 (by decide) (fun c111 => ?_) (fun c111 => ?_)
              · -- X8_isCase 111T
                have i111 := c111
                simp (disch := omega) only [i32_lt, i32_le, i32_eq, Int32.reduceToInt, nI_toInt] at i111
                refine x_iconst (v := 0) hκ dX8_isCase_133 (by decide) ?_
                refine x_istore hκ dX8_isCase_134 (by rw [hL]; decide) rfl ?_
                exact J136 za zb zf 0 hjl ta tb tf (Tz0 (fun z => c111 z.2.1))
              · -- X8_isCase 111F
                have i111 := c111
                simp (disch := omega) only [i32_lt, i32_le, i32_eq, Int32.reduceToInt, nI_toInt] at i111
                refine x_aload_n hκ dX8_isCase_114 rfl ?_
                refine t_getA hκ fl8_59 (by decide) (by decide) rfl dX8_isCase_115 ?_
                refine x_iload_n hκ dX8_isCase_118 rfl ?_
                refine t_iald (n := 180) hκ hθ (by decide) rfl rfl (by first | ((with_reducible refine vp_in_nI ?_ ?_) <;> omega) | exact i32_in (by omega) (by omega) | exact i32_in' (by simp only [Int32.toInt_add, Int32.toInt_mul, Int32.toInt_sub, Int32.reduceToInt, Int.bmod_add_bmod, Int.bmod_sub_bmod, Int.add_bmod_bmod, Int.sub_bmod_bmod, Int.bmod_mul_bmod, Int.mul_bmod_bmod]; exact i32_bm (by omega) (by omega)) (by omega) (by omega) | exact i32_in (by decide) (by decide)) (by (try simp (disch := omega) only [tS_1, tS_2, tA_1, tA_2, tF_1, tF_2, xl_0, xl_1, xl_2, Nat.reduceEqDiff, ↓reduceIte, nI_add, nI_1, nm_2, nm_3, nm_4, nm_6, nm_7, nm_8, nm_12, nm_16, nm_24, nm_40, nm_180, nm_300, nm_10210, na_0, na_2, na_3, na_4, na_5, na_6, na_7, na_8, nm_p, nm_m, nI_clamp]); exact rfl) dX8_isCase_119 ?_
                refine x_aload_n hκ dX8_isCase_120 rfl ?_
                refine t_getA hκ fl8_59 (by decide) (by decide) rfl dX8_isCase_121 ?_
                refine x_iload_n hκ dX8_isCase_124 rfl ?_
                refine t_iald (n := 180) hκ hθ (by decide) rfl rfl (by first | ((with_reducible refine vp_in_nI ?_ ?_) <;> omega) | exact i32_in (by omega) (by omega) | exact i32_in' (by simp only [Int32.toInt_add, Int32.toInt_mul, Int32.toInt_sub, Int32.reduceToInt, Int.bmod_add_bmod, Int.bmod_sub_bmod, Int.add_bmod_bmod, Int.sub_bmod_bmod, Int.bmod_mul_bmod, Int.mul_bmod_bmod]; exact i32_bm (by omega) (by omega)) (by omega) (by omega) | exact i32_in (by decide) (by decide)) (by (try simp (disch := omega) only [tS_1, tS_2, tA_1, tA_2, tF_1, tF_2, xl_0, xl_1, xl_2, Nat.reduceEqDiff, ↓reduceIte, nI_add, nI_1, nm_2, nm_3, nm_4, nm_6, nm_7, nm_8, nm_12, nm_16, nm_24, nm_40, nm_180, nm_300, nm_10210, na_0, na_2, na_3, na_4, na_5, na_6, na_7, na_8, nm_p, nm_m, nI_clamp]); exact rfl) dX8_isCase_125 ?_
                refine x_icmp_ge (tgt := 133) hκ dX8_isCase_126 (by decide) (fun c126 => ?_) (fun c126 => ?_)
                · -- X8_isCase 126T
                  have i126 := c126
                  simp (disch := omega) only [i32_lt, i32_le, i32_eq, Int32.reduceToInt, nI_toInt] at i126
                  refine x_iconst (v := 0) hκ dX8_isCase_133 (by decide) ?_
                  refine x_istore hκ dX8_isCase_134 (by rw [hL]; decide) rfl ?_
                  exact J136 za zb zf 0 hjl ta tb tf (Tz0 (fun z => by have := z.2.2; rw [i32_lt] at this; rw [i32_le] at c126; omega))
                · -- X8_isCase 126F
                  have i126 := c126
                  simp (disch := omega) only [i32_lt, i32_le, i32_eq, Int32.reduceToInt, nI_toInt] at i126
                  refine x_iconst (v := 1) hκ dX8_isCase_129 (by decide) ?_
                  refine x_goto (tgt := 134) hκ dX8_isCase_130 (by decide) ?_
                  refine x_istore hκ dX8_isCase_134 (by rw [hL]; decide) rfl ?_
                  exact J136 za zb zf 1 hjl ta tb tf (Tz1 ⟨c98, c111, by rw [i32_lt]; rw [i32_le] at c126; omega⟩)
          have J52 : ∀ (za zb : Int32) (o6 o7 : Option Value), loOk [some (.ref θ.1), some (.int c), some (.int (nI i)), some (.int (nI j)), some (.int za), some (.int zb), o6, o7] 7 = true → j < a.length → Tz (bt1 c i) za → Tz (bt1 c j) zb → X κ (tG (kE κ) θ σ) 0 0 52 [some (.ref θ.1), some (.int c), some (.int (nI i)), some (.int (nI j)), some (.int za), some (.int zb), o6, o7] [] := by
            intro za zb o6 o7 k7 hjl ta tb
            refine x_iload_n hκ dX8_isCase_52 rfl ?_
            refine x_iload_n hκ dX8_isCase_53 rfl ?_
            refine x_icmp_eq (tgt := 85) hκ dX8_isCase_54 (by decide) (fun c54 => ?_) (fun c54 => ?_)
            · -- X8_isCase 54T
              have i54 := c54
              simp (disch := omega) only [i32_lt, i32_le, i32_eq, Int32.reduceToInt, nI_toInt] at i54
              refine x_iconst (v := 0) hκ dX8_isCase_85 (by decide) ?_
              refine x_istore hκ dX8_isCase_86 (by rw [hL]; decide) rfl ?_
              exact J88 za zb 0 o7 hjl ta tb (Tz0 (fun z => z.1 (by omega)))
            · -- X8_isCase 54F
              have i54 := c54
              simp (disch := omega) only [i32_lt, i32_le, i32_eq, Int32.reduceToInt, nI_toInt] at i54
              refine x_aload_n hκ dX8_isCase_57 rfl ?_
              refine t_getA hκ fl8_59 (by decide) (by decide) rfl dX8_isCase_58 ?_
              refine x_iload_n hκ dX8_isCase_61 rfl ?_
              refine t_iald (n := 180) hκ hθ (by decide) rfl rfl (by first | ((with_reducible refine vp_in_nI ?_ ?_) <;> omega) | exact i32_in (by omega) (by omega) | exact i32_in' (by simp only [Int32.toInt_add, Int32.toInt_mul, Int32.toInt_sub, Int32.reduceToInt, Int.bmod_add_bmod, Int.bmod_sub_bmod, Int.add_bmod_bmod, Int.sub_bmod_bmod, Int.bmod_mul_bmod, Int.mul_bmod_bmod]; exact i32_bm (by omega) (by omega)) (by omega) (by omega) | exact i32_in (by decide) (by decide)) (by (try simp (disch := omega) only [tS_1, tS_2, tA_1, tA_2, tF_1, tF_2, xl_0, xl_1, xl_2, Nat.reduceEqDiff, ↓reduceIte, nI_add, nI_1, nm_2, nm_3, nm_4, nm_6, nm_7, nm_8, nm_12, nm_16, nm_24, nm_40, nm_180, nm_300, nm_10210, na_0, na_2, na_3, na_4, na_5, na_6, na_7, na_8, nm_p, nm_m, nI_clamp]); exact rfl) dX8_isCase_62 ?_
              refine x_ldc hκ q1391 dX8_isCase_63 ?_
              refine x_idiv hκ dX8_isCase_65 (by decide) ?_
              refine x_if_ne (tgt := 85) hκ dX8_isCase_66 (by decide) (fun c66 => ?_) (fun c66 => ?_)
              · -- X8_isCase 66T
                have i66 := c66
                simp (disch := omega) only [i32_lt, i32_le, i32_eq, Int32.reduceToInt, nI_toInt] at i66
                refine x_iconst (v := 0) hκ dX8_isCase_85 (by decide) ?_
                refine x_istore hκ dX8_isCase_86 (by rw [hL]; decide) rfl ?_
                exact J88 za zb 0 o7 hjl ta tb (Tz0 (fun z => c66 z.2.1))
              · -- X8_isCase 66F
                have i66 := c66
                simp (disch := omega) only [i32_lt, i32_le, i32_eq, Int32.reduceToInt, nI_toInt] at i66
                refine x_aload_n hκ dX8_isCase_69 rfl ?_
                refine t_getA hκ fl8_59 (by decide) (by decide) rfl dX8_isCase_70 ?_
                refine x_iload_n hκ dX8_isCase_73 rfl ?_
                refine t_iald (n := 180) hκ hθ (by decide) rfl rfl (by first | ((with_reducible refine vp_in_nI ?_ ?_) <;> omega) | exact i32_in (by omega) (by omega) | exact i32_in' (by simp only [Int32.toInt_add, Int32.toInt_mul, Int32.toInt_sub, Int32.reduceToInt, Int.bmod_add_bmod, Int.bmod_sub_bmod, Int.add_bmod_bmod, Int.sub_bmod_bmod, Int.bmod_mul_bmod, Int.mul_bmod_bmod]; exact i32_bm (by omega) (by omega)) (by omega) (by omega) | exact i32_in (by decide) (by decide)) (by (try simp (disch := omega) only [tS_1, tS_2, tA_1, tA_2, tF_1, tF_2, xl_0, xl_1, xl_2, Nat.reduceEqDiff, ↓reduceIte, nI_add, nI_1, nm_2, nm_3, nm_4, nm_6, nm_7, nm_8, nm_12, nm_16, nm_24, nm_40, nm_180, nm_300, nm_10210, na_0, na_2, na_3, na_4, na_5, na_6, na_7, na_8, nm_p, nm_m, nI_clamp]); exact rfl) dX8_isCase_74 ?_
                refine x_ldc hκ q1391 dX8_isCase_75 ?_
                refine x_idiv hκ dX8_isCase_77 (by decide) ?_
                refine x_if_ne (tgt := 85) hκ dX8_isCase_78 (by decide) (fun c78 => ?_) (fun c78 => ?_)
                · -- X8_isCase 78T
                  have i78 := c78
                  simp (disch := omega) only [i32_lt, i32_le, i32_eq, Int32.reduceToInt, nI_toInt] at i78
                  refine x_iconst (v := 0) hκ dX8_isCase_85 (by decide) ?_
                  refine x_istore hκ dX8_isCase_86 (by rw [hL]; decide) rfl ?_
                  exact J88 za zb 0 o7 hjl ta tb (Tz0 (fun z => c78 z.2.2))
                · -- X8_isCase 78F
                  have i78 := c78
                  simp (disch := omega) only [i32_lt, i32_le, i32_eq, Int32.reduceToInt, nI_toInt] at i78
                  refine x_iconst (v := 1) hκ dX8_isCase_81 (by decide) ?_
                  refine x_goto (tgt := 86) hκ dX8_isCase_82 (by decide) ?_
                  refine x_istore hκ dX8_isCase_86 (by rw [hL]; decide) rfl ?_
                  exact J88 za zb 1 o7 hjl ta tb (Tz1 ⟨by omega, c66, c78⟩)
          refine x_iload_n hκ dX8_isCase_12 rfl ?_
          refine x_aload_n hκ dX8_isCase_13 rfl ?_
          refine t_get hκ fl8_60 (by decide) (by decide) rfl (by (try simp (disch := omega) only [tS_1, tS_2, tA_1, tA_2, tF_1, tF_2, xl_0, xl_1, xl_2, Nat.reduceEqDiff, ↓reduceIte, nI_add, nI_1, nm_2, nm_3, nm_4, nm_6, nm_7, nm_8, nm_12, nm_16, nm_24, nm_40, nm_180, nm_300, nm_10210, na_0, na_2, na_3, na_4, na_5, na_6, na_7, na_8, nm_p, nm_m, nI_clamp, h60]); exact rfl) dX8_isCase_14 ?_
          refine x_icmp_ge (tgt := 174) hκ dX8_isCase_17 (by decide) (fun c17 => ?_) (fun c17 => ?_)
          · -- X8_isCase 17T
            have i17 := c17
            simp (disch := omega) only [i32_lt, i32_le, i32_eq, Int32.reduceToInt, nI_toInt] at i17
            refine x_iincN (y := 1) hκ dX8_isCase_174 (by decide) rfl (by rw [hL]; decide) rfl (by (try simp (disch := omega) only [tS_1, tS_2, tA_1, tA_2, tF_1, tF_2, xl_0, xl_1, xl_2, Nat.reduceEqDiff, ↓reduceIte, nI_add, nI_1, nm_2, nm_3, nm_4, nm_6, nm_7, nm_8, nm_12, nm_16, nm_24, nm_40, nm_180, nm_300, nm_10210, na_0, na_2, na_3, na_4, na_5, na_6, na_7, na_8, nm_p, nm_m, nI_clamp, h60]); exact rfl) ?_
            refine x_goto (tgt := 2) hκ dX8_isCase_177 (by decide) ?_
            exact ih (i + 1) _ _ _ _ _ rfl k5 k6 k7 (by omega) (by omega) (fun k jj x y hk hx hy => by
              rcases (by omega : k < i ∨ k = i) with z | z
              · exact hdone k jj x y z hx hy
              · subst z
                exact hdj jj x y (by have := (List.getElem?_eq_some_iff.mp hy).1; omega) hx hy)
          · -- X8_isCase 17F
            have i17 := c17
            simp (disch := omega) only [i32_lt, i32_le, i32_eq, Int32.reduceToInt, nI_toInt] at i17
            refine x_iload_n hκ dX8_isCase_20 rfl ?_
            refine x_iload_n hκ dX8_isCase_21 rfl ?_
            refine x_ishr hκ dX8_isCase_22 ?_
            refine x_iconst (v := 1) hκ dX8_isCase_23 (by decide) ?_
            refine x_iand hκ dX8_isCase_24 ?_
            refine x_iconst (v := 1) hκ dX8_isCase_25 (by decide) ?_
            refine x_icmp_ne (tgt := 33) hκ dX8_isCase_26 (by decide) (fun c26 => ?_) (fun c26 => ?_)
            · -- X8_isCase 26T
              have i26 := c26
              simp (disch := omega) only [i32_lt, i32_le, i32_eq, Int32.reduceToInt, nI_toInt] at i26
              refine x_iconst (v := 0) hκ dX8_isCase_33 (by decide) ?_
              refine x_istore hκ dX8_isCase_34 (by rw [hL]; decide) rfl ?_
              refine x_iload_n hκ dX8_isCase_36 rfl ?_
              refine x_iload_n hκ dX8_isCase_37 rfl ?_
              refine x_ishr hκ dX8_isCase_38 ?_
              refine x_iconst (v := 1) hκ dX8_isCase_39 (by decide) ?_
              refine x_iand hκ dX8_isCase_40 ?_
              refine x_iconst (v := 1) hκ dX8_isCase_41 (by decide) ?_
              refine x_icmp_ne (tgt := 49) hκ dX8_isCase_42 (by decide) (fun c42 => ?_) (fun c42 => ?_)
              · -- X8_isCase 42T
                have i42 := c42
                simp (disch := omega) only [i32_lt, i32_le, i32_eq, Int32.reduceToInt, nI_toInt] at i42
                refine x_iconst (v := 0) hκ dX8_isCase_49 (by decide) ?_
                refine x_istore hκ dX8_isCase_50 (by rw [hL]; decide) rfl ?_
                exact J52 0 0 o6 o7 k7 (by omega) (Tz0 c26) (Tz0 c42)
              · -- X8_isCase 42F
                have i42 := c42
                simp (disch := omega) only [i32_lt, i32_le, i32_eq, Int32.reduceToInt, nI_toInt] at i42
                refine x_iconst (v := 1) hκ dX8_isCase_45 (by decide) ?_
                refine x_goto (tgt := 50) hκ dX8_isCase_46 (by decide) ?_
                refine x_istore hκ dX8_isCase_50 (by rw [hL]; decide) rfl ?_
                exact J52 0 1 o6 o7 k7 (by omega) (Tz0 c26) (Tz1 c42)
            · -- X8_isCase 26F
              have i26 := c26
              simp (disch := omega) only [i32_lt, i32_le, i32_eq, Int32.reduceToInt, nI_toInt] at i26
              refine x_iconst (v := 1) hκ dX8_isCase_29 (by decide) ?_
              refine x_goto (tgt := 34) hκ dX8_isCase_30 (by decide) ?_
              refine x_istore hκ dX8_isCase_34 (by rw [hL]; decide) rfl ?_
              refine x_iload_n hκ dX8_isCase_36 rfl ?_
              refine x_iload_n hκ dX8_isCase_37 rfl ?_
              refine x_ishr hκ dX8_isCase_38 ?_
              refine x_iconst (v := 1) hκ dX8_isCase_39 (by decide) ?_
              refine x_iand hκ dX8_isCase_40 ?_
              refine x_iconst (v := 1) hκ dX8_isCase_41 (by decide) ?_
              refine x_icmp_ne (tgt := 49) hκ dX8_isCase_42 (by decide) (fun c42 => ?_) (fun c42 => ?_)
              · -- X8_isCase 42T
                have i42 := c42
                simp (disch := omega) only [i32_lt, i32_le, i32_eq, Int32.reduceToInt, nI_toInt] at i42
                refine x_iconst (v := 0) hκ dX8_isCase_49 (by decide) ?_
                refine x_istore hκ dX8_isCase_50 (by rw [hL]; decide) rfl ?_
                exact J52 1 0 o6 o7 k7 (by omega) (Tz1 c26) (Tz0 c42)
              · -- X8_isCase 42F
                have i42 := c42
                simp (disch := omega) only [i32_lt, i32_le, i32_eq, Int32.reduceToInt, nI_toInt] at i42
                refine x_iconst (v := 1) hκ dX8_isCase_45 (by decide) ?_
                refine x_goto (tgt := 50) hκ dX8_isCase_46 (by decide) ?_
                refine x_istore hκ dX8_isCase_50 (by rw [hL]; decide) rfl ?_
                exact J52 1 1 o6 o7 k7 (by omega) (Tz1 c26) (Tz1 c42)
      refine x_iload_n hκ dX8_isCase_2 rfl ?_
      refine x_aload_n hκ dX8_isCase_3 rfl ?_
      refine t_get hκ fl8_60 (by decide) (by decide) rfl (by (try simp (disch := omega) only [tS_1, tS_2, tA_1, tA_2, tF_1, tF_2, xl_0, xl_1, xl_2, Nat.reduceEqDiff, ↓reduceIte, nI_add, nI_1, nm_2, nm_3, nm_4, nm_6, nm_7, nm_8, nm_12, nm_16, nm_24, nm_40, nm_180, nm_300, nm_10210, na_0, na_2, na_3, na_4, na_5, na_6, na_7, na_8, nm_p, nm_m, nI_clamp, h60]); exact rfl) dX8_isCase_4 ?_
      refine x_icmp_ge (tgt := 180) hκ dX8_isCase_7 (by decide) (fun c7 => ?_) (fun c7 => ?_)
      · -- X8_isCase 7T
        have i7 := c7
        simp (disch := omega) only [i32_lt, i32_le, i32_eq, Int32.reduceToInt, nI_toInt] at i7
        refine x_iconst (v := 1) hκ dX8_isCase_180 (by decide) ?_
        refine t_retz hκ hr rfl dX8_isCase_181 (by first | exact Or.inl rfl | exact Or.inr rfl | assumption) ?_
        exact ⟨Tz1 (fun k j x y hx hy => hdone k j x y (by have := (List.getElem?_eq_some_iff.mp hx).1; omega) hx hy), rfl⟩
      · -- X8_isCase 7F
        have i7 := c7
        simp (disch := omega) only [i32_lt, i32_le, i32_eq, Int32.reduceToInt, nI_toInt] at i7
        refine x_iconst (v := 0) hκ dX8_isCase_10 (by decide) ?_
        refine x_istore_n hκ dX8_isCase_11 (by rw [hL]; decide) rfl ?_
        exact inner (by omega) (a.length + 1) 0 _ _ _ _ l5 l6 l7 (by omega) (by omega) (fun k x y hk => absurd hk (Nat.not_lt_zero _))
  refine x_iconst (v := 0) hκ dX8_isCase_0 (by decide) ?_
  refine x_istore_n hκ dX8_isCase_1 (by rw [hL]; decide) rfl ?_
  exact outer (a.length + 1) 0 none none none none none rfl rfl rfl rfl (by omega) (by omega) (fun k j x y hk => absurd hk (Nat.not_lt_zero _))
