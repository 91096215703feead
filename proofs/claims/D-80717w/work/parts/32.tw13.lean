
/-! the reference: filing -/
abbrev noneP (σ : TS) (b t : Nat) : Prop := 0 < t ∧ ¬ (σ.2 40 (4 * b + t)).toInt < (σ.2 7 (4 * b + t)).toInt
def flT (σ : TS) (l b t : Nat) (f : Int32) : TS × Int32 :=
  if (σ.1 49 >>> (nI t &&& 31)) &&& 1 = 1 then
    (if noneP σ b t then (if f = 0 then (tS (putC (tS σ 39 (σ.1 39 + 1)) (4 * b) (nI l) (σ.1 52) 0) 44 (σ.1 44 + 1), 1) else (tS σ 39 (σ.1 39 + 1), 1))
     else (tS (putC (tS σ 39 (σ.1 39 + 0)) (4 * b + t) (nI l) (σ.1 52) 0) 44 (σ.1 44 + 1), if ¬ f = 0 ∨ t = 0 then 1 else 0))
  else (σ, f)
def flS (σ : TS) (l b : Nat) : Nat → TS × Int32
  | 0 => (σ, 0)
  | t + 1 => flT (flS σ l b t).1 l b t (flS σ l b t).2
theorem putC_40 {σ : TS} {t k : Nat} {l m h : Int32} : (putC σ t l m h).2 40 k = if k = t then σ.2 40 t + 1 else σ.2 40 k := by
  unfold putC
  simp only [tA_2, Nat.reduceEqDiff, ↓reduceIte]
  rfl
theorem putC_1 {σ : TS} {t : Nat} {l m h : Int32} : (putC σ t l m h).1 = σ.1 := rfl
theorem flT_cnt {σ : TS} {l b t : Nat} {f : Int32} {n : Int} (hn : n ≤ 298) (h : ∀ k, k < 12 → 0 ≤ (σ.2 40 k).toInt ∧ (σ.2 40 k).toInt ≤ n) : ∀ k, k < 12 → 0 ≤ ((flT σ l b t f).1.2 40 k).toInt ∧ ((flT σ l b t f).1.2 40 k).toInt ≤ n + 1 := by
  intro k hk
  have h1 := h k hk
  have up : ∀ {τ : TS} {j : Nat} {x y z : Int32}, τ.2 40 = σ.2 40 → j < 12 → 0 ≤ ((putC τ j x y z).2 40 k).toInt ∧ ((putC τ j x y z).2 40 k).toInt ≤ n + 1 := by
    intro τ j x y z e hj
    rw [putC_40, e]
    have h2 := h j hj
    split
    · rw [i32_add (by simp only [Int32.reduceToInt]; omega) (by simp only [Int32.reduceToInt]; omega)]
      simp only [Int32.reduceToInt]
      omega
    · omega
  unfold flT
  by_cases hj : 4 * b + t < 12
  · split
    · split
      · split
        · exact up rfl (by omega)
        · show 0 ≤ (σ.2 40 k).toInt ∧ _; show _ ∧ (σ.2 40 k).toInt ≤ n + 1; omega
      · exact up rfl hj
    · show 0 ≤ (σ.2 40 k).toInt ∧ (σ.2 40 k).toInt ≤ n + 1; omega
  · split
    · split
      · split
        · by_cases hb : 4 * b < 12
          · exact up rfl hb
          · show 0 ≤ ((putC _ _ _ _ _).2 40 k).toInt ∧ ((putC _ _ _ _ _).2 40 k).toInt ≤ n + 1
            rw [putC_40, if_neg (by omega)]
            show 0 ≤ (σ.2 40 k).toInt ∧ (σ.2 40 k).toInt ≤ n + 1
            omega
        · show 0 ≤ (σ.2 40 k).toInt ∧ (σ.2 40 k).toInt ≤ n + 1; omega
      · show 0 ≤ ((putC _ _ _ _ _).2 40 k).toInt ∧ ((putC _ _ _ _ _).2 40 k).toInt ≤ n + 1
        rw [putC_40, if_neg (by omega)]
        show 0 ≤ (σ.2 40 k).toInt ∧ (σ.2 40 k).toInt ≤ n + 1
        omega
    · show 0 ≤ (σ.2 40 k).toInt ∧ (σ.2 40 k).toInt ≤ n + 1; omega
theorem flT_52 {σ : TS} {l b t : Nat} {f : Int32} : (flT σ l b t f).1.1 52 = σ.1 52 := by
  unfold flT
  split <;> (try split) <;> (try split) <;> rfl
theorem flS_ok {σ : TS} {l b : Nat} (h : ∀ k, k < 12 → 0 ≤ (σ.2 40 k).toInt ∧ (σ.2 40 k).toInt ≤ 290) : ∀ t, t ≤ 4 → (∀ k, k < 12 → 0 ≤ ((flS σ l b t).1.2 40 k).toInt ∧ ((flS σ l b t).1.2 40 k).toInt ≤ 290 + t) ∧ (flS σ l b t).1.1 52 = σ.1 52 := by
  intro t
  induction t with
  | zero => intro _; exact ⟨fun k hk => by have := h k hk; show 0 ≤ (σ.2 40 k).toInt ∧ (σ.2 40 k).toInt ≤ _; omega, rfl⟩
  | succ t ih =>
    intro ht
    obtain ⟨i1, i2⟩ := ih (by omega)
    exact ⟨fun k hk => by have := flT_cnt (l := l) (b := b) (t := t) (f := (flS σ l b t).2) (by omega) i1 k hk; rw [flS]; omega, by rw [flS, flT_52, i2]⟩
theorem mX8_files {E : gE} {θ : TA} (hθ : tOk θ) {σ : TS} {l b : Nat} (hl : l < 210) (hb : b < 3) (hT : ∀ k, k < 12 → 0 ≤ (σ.2 40 k).toInt ∧ (σ.2 40 k).toInt ≤ 290) (hm : σ.1 52 = 0 ∨ σ.1 52 = 1) : TMv E θ σ yX8_files cX8_files 7 1 [.int (nI l), .int (nI b)] (fun σ' => σ' = (flS σ l b 4).1) := by
  refine TMv.of (by decide) (Nat.le_of_ble_eq_true rfl) ?_
  rintro κ rfl hL hκ hr
  have loop : ∀ (m t : Nat) (o5 o6 : Option Value), loOk [some (.ref θ.1), some (.int (nI l)), some (.int (nI b)), some (.int (flS σ l b t).2), some (.int (nI t)), o5, o6] 6 = true → t ≤ 4 → 4 - t < m → X κ (tG (kE κ) θ (flS σ l b t).1) 0 0 5 [some (.ref θ.1), some (.int (nI l)), some (.int (nI b)), some (.int (flS σ l b t).2), some (.int (nI t)), o5, o6] [] := by
    intro m
    induction m with
    | zero => intro t o5 o6 _ h1 h2; exact absurd h2 (Nat.not_lt_zero _)
    | succ m ih =>
      intro t o5 o6 hlo ht hmm
      obtain ⟨k1, k2⟩ := flS_ok (l := l) (b := b) hT t ht
      have nxt : ∀ (o5 o6 : Option Value), loOk [some (.ref θ.1), some (.int (nI l)), some (.int (nI b)), some (.int (flS σ l b (t + 1)).2), some (.int (nI (t + 1))), o5, o6] 6 = true → t < 4 → X κ (tG (kE κ) θ (flS σ l b (t + 1)).1) 0 0 5 [some (.ref θ.1), some (.int (nI l)), some (.int (nI b)), some (.int (flS σ l b (t + 1)).2), some (.int (nI (t + 1))), o5, o6] [] := fun o5 o6 h1 h2 => ih (t + 1) o5 o6 h1 (by omega) (by omega)
      rw [flS] at nxt
      rw [← k2] at hm
      generalize hs : (flS σ l b t).1 = s at *
      generalize (flS σ l b t).2 = f at *
      have JN : t < 4 → (s.1 49 >>> (nI t &&& 31)) &&& 1 = 1 → noneP s b t → X κ (tG (kE κ) θ s) 0 0 61 [some (.ref θ.1), some (.int (nI l)), some (.int (nI b)), some (.int f), some (.int (nI t)), some (.int (nI (4 * b + t))), some (.int 1)] [] := by
        intro ht4 hbit hnn
        unfold flT at nxt
        rw [if_pos hbit, if_pos hnn] at nxt
        refine x_aload_n hκ dX8_files_61 rfl ?_
        refine x_dup hκ dX8_files_62 rfl ?_
        refine t_get hκ fl8_39 (by decide) (by decide) rfl (by (try simp (disch := omega) only [tS_1, tS_2, tA_1, tA_2, tF_1, tF_2, xl_0, xl_1, xl_2, Nat.reduceEqDiff, ↓reduceIte, nI_add, nI_1, nm_2, nm_3, nm_4, nm_6, nm_7, nm_8, nm_12, nm_16, nm_24, nm_40, nm_180, nm_300, nm_10210, na_0, na_2, na_3, na_4, na_5, na_6, na_7, na_8, nm_p, nm_m, nI_clamp]); exact rfl) dX8_files_63 ?_
        refine x_iload hκ dX8_files_66 rfl ?_
        refine x_if_eq (tgt := 75) hκ dX8_files_68 (by decide) (fun c68 => ?_) (fun c68 => ?_)
        · -- X8_files 68T
          have i68 := c68
          simp (disch := omega) only [i32_lt, i32_le, i32_eq, Int32.reduceToInt, nI_toInt] at i68
          exact absurd c68 (by decide)
        · -- X8_files 68F
          have i68 := c68
          simp (disch := omega) only [i32_lt, i32_le, i32_eq, Int32.reduceToInt, nI_toInt] at i68
          refine x_iconst (v := 1) hκ dX8_files_71 (by decide) ?_
          refine x_goto (tgt := 76) hκ dX8_files_72 (by decide) ?_
          refine x_iaddN hκ (by (try simp (disch := omega) only [tS_1, tS_2, tA_1, tA_2, tF_1, tF_2, xl_0, xl_1, xl_2, Nat.reduceEqDiff, ↓reduceIte, nI_add, nI_1, nm_2, nm_3, nm_4, nm_6, nm_7, nm_8, nm_12, nm_16, nm_24, nm_40, nm_180, nm_300, nm_10210, na_0, na_2, na_3, na_4, na_5, na_6, na_7, na_8, nm_p, nm_m, nI_clamp]); exact rfl) dX8_files_76 ?_
          refine t_put hκ fl8_39 (by decide) (by decide) rfl rfl rfl dX8_files_77 ?_
          refine x_iload hκ dX8_files_80 rfl ?_
          refine x_if_eq (tgt := 91) hκ dX8_files_82 (by decide) (fun c82 => ?_) (fun c82 => ?_)
          · -- X8_files 82T
            have i82 := c82
            simp (disch := omega) only [i32_lt, i32_le, i32_eq, Int32.reduceToInt, nI_toInt] at i82
            exact absurd c82 (by decide)
          · -- X8_files 82F
            have i82 := c82
            simp (disch := omega) only [i32_lt, i32_le, i32_eq, Int32.reduceToInt, nI_toInt] at i82
            refine x_iconst (v := 4) hκ dX8_files_85 (by decide) ?_
            refine x_iload_n hκ dX8_files_86 rfl ?_
            refine x_imulN hκ (by (try simp (disch := omega) only [tS_1, tS_2, tA_1, tA_2, tF_1, tF_2, xl_0, xl_1, xl_2, Nat.reduceEqDiff, ↓reduceIte, nI_add, nI_1, nm_2, nm_3, nm_4, nm_6, nm_7, nm_8, nm_12, nm_16, nm_24, nm_40, nm_180, nm_300, nm_10210, na_0, na_2, na_3, na_4, na_5, na_6, na_7, na_8, nm_p, nm_m, nI_clamp]); exact rfl) dX8_files_87 ?_
            refine x_goto (tgt := 93) hκ dX8_files_88 (by decide) ?_
            refine x_istore hκ dX8_files_93 (by rw [hL]; decide) rfl ?_
            refine x_iload hκ dX8_files_95 rfl ?_
            refine x_if_eq (tgt := 104) hκ dX8_files_97 (by decide) (fun c97 => ?_) (fun c97 => ?_)
            · -- X8_files 97T
              have i97 := c97
              simp (disch := omega) only [i32_lt, i32_le, i32_eq, Int32.reduceToInt, nI_toInt] at i97
              exact absurd c97 (by decide)
            · -- X8_files 97F
              have i97 := c97
              simp (disch := omega) only [i32_lt, i32_le, i32_eq, Int32.reduceToInt, nI_toInt] at i97
              refine x_iload_n hκ dX8_files_100 rfl ?_
              refine x_if_ne (tgt := 126) hκ dX8_files_101 (by decide) (fun c101 => ?_) (fun c101 => ?_)
              · -- X8_files 101T
                have i101 := c101
                simp (disch := omega) only [i32_lt, i32_le, i32_eq, Int32.reduceToInt, nI_toInt] at i101
                refine x_iload_n hκ dX8_files_126 rfl ?_
                refine x_if_ne (tgt := 140) hκ dX8_files_127 (by decide) (fun c127 => ?_) (fun c127 => ?_)
                · -- X8_files 127T
                  have i127 := c127
                  simp (disch := omega) only [i32_lt, i32_le, i32_eq, Int32.reduceToInt, nI_toInt] at i127
                  refine x_iconst (v := 1) hκ dX8_files_140 (by decide) ?_
                  refine x_goto (tgt := 145) hκ dX8_files_141 (by decide) ?_
                  refine x_istore_n hκ dX8_files_145 (by rw [hL]; decide) rfl ?_
                  refine x_iincN (y := 1) hκ dX8_files_146 (by decide) rfl (by rw [hL]; decide) rfl (by (try simp (disch := omega) only [tS_1, tS_2, tA_1, tA_2, tF_1, tF_2, xl_0, xl_1, xl_2, Nat.reduceEqDiff, ↓reduceIte, nI_add, nI_1, nm_2, nm_3, nm_4, nm_6, nm_7, nm_8, nm_12, nm_16, nm_24, nm_40, nm_180, nm_300, nm_10210, na_0, na_2, na_3, na_4, na_5, na_6, na_7, na_8, nm_p, nm_m, nI_clamp]); exact rfl) ?_
                  refine x_goto (tgt := 5) hκ dX8_files_149 (by decide) ?_
                  rw [if_neg c101] at nxt
                  exact nxt _ _ rfl ht4
                · -- X8_files 127F
                  have i127 := c127
                  simp (disch := omega) only [i32_lt, i32_le, i32_eq, Int32.reduceToInt, nI_toInt] at i127
                  refine x_iload hκ dX8_files_130 rfl ?_
                  refine x_if_eq (tgt := 140) hκ dX8_files_132 (by decide) (fun c132 => ?_) (fun c132 => ?_)
                  · -- X8_files 132T
                    have i132 := c132
                    simp (disch := omega) only [i32_lt, i32_le, i32_eq, Int32.reduceToInt, nI_toInt] at i132
                    refine x_iconst (v := 1) hκ dX8_files_140 (by decide) ?_
                    refine x_goto (tgt := 145) hκ dX8_files_141 (by decide) ?_
                    refine x_istore_n hκ dX8_files_145 (by rw [hL]; decide) rfl ?_
                    refine x_iincN (y := 1) hκ dX8_files_146 (by decide) rfl (by rw [hL]; decide) rfl (by (try simp (disch := omega) only [tS_1, tS_2, tA_1, tA_2, tF_1, tF_2, xl_0, xl_1, xl_2, Nat.reduceEqDiff, ↓reduceIte, nI_add, nI_1, nm_2, nm_3, nm_4, nm_6, nm_7, nm_8, nm_12, nm_16, nm_24, nm_40, nm_180, nm_300, nm_10210, na_0, na_2, na_3, na_4, na_5, na_6, na_7, na_8, nm_p, nm_m, nI_clamp]); exact rfl) ?_
                    refine x_goto (tgt := 5) hκ dX8_files_149 (by decide) ?_
                    exact absurd c127 c101
                  · -- X8_files 132F
                    have i132 := c132
                    simp (disch := omega) only [i32_lt, i32_le, i32_eq, Int32.reduceToInt, nI_toInt] at i132
                    refine x_iload hκ dX8_files_135 rfl ?_
                    refine x_if_eq (tgt := 144) hκ dX8_files_137 (by decide) (fun c137 => ?_) (fun c137 => ?_)
                    · -- X8_files 137T
                      have i137 := c137
                      simp (disch := omega) only [i32_lt, i32_le, i32_eq, Int32.reduceToInt, nI_toInt] at i137
                      exact absurd c137 (by decide)
                    · -- X8_files 137F
                      have i137 := c137
                      simp (disch := omega) only [i32_lt, i32_le, i32_eq, Int32.reduceToInt, nI_toInt] at i137
                      refine x_iconst (v := 1) hκ dX8_files_140 (by decide) ?_
                      refine x_goto (tgt := 145) hκ dX8_files_141 (by decide) ?_
                      refine x_istore_n hκ dX8_files_145 (by rw [hL]; decide) rfl ?_
                      refine x_iincN (y := 1) hκ dX8_files_146 (by decide) rfl (by rw [hL]; decide) rfl (by (try simp (disch := omega) only [tS_1, tS_2, tA_1, tA_2, tF_1, tF_2, xl_0, xl_1, xl_2, Nat.reduceEqDiff, ↓reduceIte, nI_add, nI_1, nm_2, nm_3, nm_4, nm_6, nm_7, nm_8, nm_12, nm_16, nm_24, nm_40, nm_180, nm_300, nm_10210, na_0, na_2, na_3, na_4, na_5, na_6, na_7, na_8, nm_p, nm_m, nI_clamp]); exact rfl) ?_
                      refine x_goto (tgt := 5) hκ dX8_files_149 (by decide) ?_
                      first | (rw [if_pos c101] at nxt; exact nxt _ _ rfl ht4) | exact absurd c127 c101
              · -- X8_files 101F
                have i101 := c101
                simp (disch := omega) only [i32_lt, i32_le, i32_eq, Int32.reduceToInt, nI_toInt] at i101
                refine x_aload_n hκ dX8_files_104 rfl ?_
                refine x_iload hκ dX8_files_105 rfl ?_
                refine x_iload_n hκ dX8_files_107 rfl ?_
                refine x_aload_n hκ dX8_files_108 rfl ?_
                refine t_get hκ fl8_52 (by decide) (by decide) rfl (by (try simp (disch := omega) only [tS_1, tS_2, tA_1, tA_2, tF_1, tF_2, xl_0, xl_1, xl_2, Nat.reduceEqDiff, ↓reduceIte, nI_add, nI_1, nm_2, nm_3, nm_4, nm_6, nm_7, nm_8, nm_12, nm_16, nm_24, nm_40, nm_180, nm_300, nm_10210, na_0, na_2, na_3, na_4, na_5, na_6, na_7, na_8, nm_p, nm_m, nI_clamp]); exact rfl) dX8_files_109 ?_
                refine x_iconst (v := 0) hκ dX8_files_112 (by decide) ?_
                refine t_callv hκ (mX8_put_2 hθ (by rw [nI_toInt (by omega)]; omega) (by rw [nI_clamp (by omega)]; have := k1 (4 * b) (by omega); exact ⟨this.1, by have := this.2; show (s.2 40 (4 * b)).toInt ≤ 299; omega⟩) hm) (by omega) (by decide) wX8_275 aX8_put_2 rfl (Nat.le_of_ble_eq_true rfl) dX8_files_113 (fun σ113 h113 => ?_)
                subst h113
                rw [nI_clamp (n := 4 * b) (by omega)]
                refine x_aload_n hκ dX8_files_116 rfl ?_
                refine x_dup hκ dX8_files_117 rfl ?_
                refine t_get hκ fl8_44 (by decide) (by decide) rfl (by (try simp (disch := omega) only [tS_1, tS_2, tA_1, tA_2, tF_1, tF_2, xl_0, xl_1, xl_2, Nat.reduceEqDiff, ↓reduceIte, nI_add, nI_1, nm_2, nm_3, nm_4, nm_6, nm_7, nm_8, nm_12, nm_16, nm_24, nm_40, nm_180, nm_300, nm_10210, na_0, na_2, na_3, na_4, na_5, na_6, na_7, na_8, nm_p, nm_m, nI_clamp]); exact rfl) dX8_files_118 ?_
                refine x_iconst (v := 1) hκ dX8_files_121 (by decide) ?_
                refine x_iaddN hκ (by (try simp (disch := omega) only [tS_1, tS_2, tA_1, tA_2, tF_1, tF_2, xl_0, xl_1, xl_2, Nat.reduceEqDiff, ↓reduceIte, nI_add, nI_1, nm_2, nm_3, nm_4, nm_6, nm_7, nm_8, nm_12, nm_16, nm_24, nm_40, nm_180, nm_300, nm_10210, na_0, na_2, na_3, na_4, na_5, na_6, na_7, na_8, nm_p, nm_m, nI_clamp]); exact rfl) dX8_files_122 ?_
                refine t_put hκ fl8_44 (by decide) (by decide) rfl rfl rfl dX8_files_123 ?_
                refine x_iload_n hκ dX8_files_126 rfl ?_
                refine x_if_ne (tgt := 140) hκ dX8_files_127 (by decide) (fun c127 => ?_) (fun c127 => ?_)
                · -- X8_files 127T
                  have i127 := c127
                  simp (disch := omega) only [i32_lt, i32_le, i32_eq, Int32.reduceToInt, nI_toInt] at i127
                  refine x_iconst (v := 1) hκ dX8_files_140 (by decide) ?_
                  refine x_goto (tgt := 145) hκ dX8_files_141 (by decide) ?_
                  refine x_istore_n hκ dX8_files_145 (by rw [hL]; decide) rfl ?_
                  refine x_iincN (y := 1) hκ dX8_files_146 (by decide) rfl (by rw [hL]; decide) rfl (by (try simp (disch := omega) only [tS_1, tS_2, tA_1, tA_2, tF_1, tF_2, xl_0, xl_1, xl_2, Nat.reduceEqDiff, ↓reduceIte, nI_add, nI_1, nm_2, nm_3, nm_4, nm_6, nm_7, nm_8, nm_12, nm_16, nm_24, nm_40, nm_180, nm_300, nm_10210, na_0, na_2, na_3, na_4, na_5, na_6, na_7, na_8, nm_p, nm_m, nI_clamp]); exact rfl) ?_
                  refine x_goto (tgt := 5) hκ dX8_files_149 (by decide) ?_
                  exact absurd c101 c127
                · -- X8_files 127F
                  have i127 := c127
                  simp (disch := omega) only [i32_lt, i32_le, i32_eq, Int32.reduceToInt, nI_toInt] at i127
                  refine x_iload hκ dX8_files_130 rfl ?_
                  refine x_if_eq (tgt := 140) hκ dX8_files_132 (by decide) (fun c132 => ?_) (fun c132 => ?_)
                  · -- X8_files 132T
                    have i132 := c132
                    simp (disch := omega) only [i32_lt, i32_le, i32_eq, Int32.reduceToInt, nI_toInt] at i132
                    refine x_iconst (v := 1) hκ dX8_files_140 (by decide) ?_
                    refine x_goto (tgt := 145) hκ dX8_files_141 (by decide) ?_
                    refine x_istore_n hκ dX8_files_145 (by rw [hL]; decide) rfl ?_
                    refine x_iincN (y := 1) hκ dX8_files_146 (by decide) rfl (by rw [hL]; decide) rfl (by (try simp (disch := omega) only [tS_1, tS_2, tA_1, tA_2, tF_1, tF_2, xl_0, xl_1, xl_2, Nat.reduceEqDiff, ↓reduceIte, nI_add, nI_1, nm_2, nm_3, nm_4, nm_6, nm_7, nm_8, nm_12, nm_16, nm_24, nm_40, nm_180, nm_300, nm_10210, na_0, na_2, na_3, na_4, na_5, na_6, na_7, na_8, nm_p, nm_m, nI_clamp]); exact rfl) ?_
                    refine x_goto (tgt := 5) hκ dX8_files_149 (by decide) ?_
                    rw [if_pos c101] at nxt
                    exact nxt _ _ rfl ht4
                  · -- X8_files 132F
                    have i132 := c132
                    simp (disch := omega) only [i32_lt, i32_le, i32_eq, Int32.reduceToInt, nI_toInt] at i132
                    refine x_iload hκ dX8_files_135 rfl ?_
                    refine x_if_eq (tgt := 144) hκ dX8_files_137 (by decide) (fun c137 => ?_) (fun c137 => ?_)
                    · -- X8_files 137T
                      have i137 := c137
                      simp (disch := omega) only [i32_lt, i32_le, i32_eq, Int32.reduceToInt, nI_toInt] at i137
                      exact absurd c137 (by decide)
                    · -- X8_files 137F
                      have i137 := c137
                      simp (disch := omega) only [i32_lt, i32_le, i32_eq, Int32.reduceToInt, nI_toInt] at i137
                      refine x_iconst (v := 1) hκ dX8_files_140 (by decide) ?_
                      refine x_goto (tgt := 145) hκ dX8_files_141 (by decide) ?_
                      refine x_istore_n hκ dX8_files_145 (by rw [hL]; decide) rfl ?_
                      refine x_iincN (y := 1) hκ dX8_files_146 (by decide) rfl (by rw [hL]; decide) rfl (by (try simp (disch := omega) only [tS_1, tS_2, tA_1, tA_2, tF_1, tF_2, xl_0, xl_1, xl_2, Nat.reduceEqDiff, ↓reduceIte, nI_add, nI_1, nm_2, nm_3, nm_4, nm_6, nm_7, nm_8, nm_12, nm_16, nm_24, nm_40, nm_180, nm_300, nm_10210, na_0, na_2, na_3, na_4, na_5, na_6, na_7, na_8, nm_p, nm_m, nI_clamp]); exact rfl) ?_
                      refine x_goto (tgt := 5) hκ dX8_files_149 (by decide) ?_
                      first | (rw [if_pos c101] at nxt; exact nxt _ _ rfl ht4) | exact absurd c127 c101
      have JO : t < 4 → (s.1 49 >>> (nI t &&& 31)) &&& 1 = 1 → ¬ noneP s b t → X κ (tG (kE κ) θ s) 0 0 61 [some (.ref θ.1), some (.int (nI l)), some (.int (nI b)), some (.int f), some (.int (nI t)), some (.int (nI (4 * b + t))), some (.int 0)] [] := by
        intro ht4 hbit hnn
        unfold flT at nxt
        rw [if_pos hbit, if_neg hnn] at nxt
        refine x_aload_n hκ dX8_files_61 rfl ?_
        refine x_dup hκ dX8_files_62 rfl ?_
        refine t_get hκ fl8_39 (by decide) (by decide) rfl (by (try simp (disch := omega) only [tS_1, tS_2, tA_1, tA_2, tF_1, tF_2, xl_0, xl_1, xl_2, Nat.reduceEqDiff, ↓reduceIte, nI_add, nI_1, nm_2, nm_3, nm_4, nm_6, nm_7, nm_8, nm_12, nm_16, nm_24, nm_40, nm_180, nm_300, nm_10210, na_0, na_2, na_3, na_4, na_5, na_6, na_7, na_8, nm_p, nm_m, nI_clamp]); exact rfl) dX8_files_63 ?_
        refine x_iload hκ dX8_files_66 rfl ?_
        refine x_if_eq (tgt := 75) hκ dX8_files_68 (by decide) (fun c68 => ?_) (fun c68 => ?_)
        · -- X8_files 68T
          have i68 := c68
          simp (disch := omega) only [i32_lt, i32_le, i32_eq, Int32.reduceToInt, nI_toInt] at i68
          refine x_iconst (v := 0) hκ dX8_files_75 (by decide) ?_
          refine x_iaddN hκ (by (try simp (disch := omega) only [tS_1, tS_2, tA_1, tA_2, tF_1, tF_2, xl_0, xl_1, xl_2, Nat.reduceEqDiff, ↓reduceIte, nI_add, nI_1, nm_2, nm_3, nm_4, nm_6, nm_7, nm_8, nm_12, nm_16, nm_24, nm_40, nm_180, nm_300, nm_10210, na_0, na_2, na_3, na_4, na_5, na_6, na_7, na_8, nm_p, nm_m, nI_clamp]); exact rfl) dX8_files_76 ?_
          refine t_put hκ fl8_39 (by decide) (by decide) rfl rfl rfl dX8_files_77 ?_
          refine x_iload hκ dX8_files_80 rfl ?_
          refine x_if_eq (tgt := 91) hκ dX8_files_82 (by decide) (fun c82 => ?_) (fun c82 => ?_)
          · -- X8_files 82T
            have i82 := c82
            simp (disch := omega) only [i32_lt, i32_le, i32_eq, Int32.reduceToInt, nI_toInt] at i82
            refine x_iload hκ dX8_files_91 rfl ?_
            refine x_istore hκ dX8_files_93 (by rw [hL]; decide) rfl ?_
            refine x_iload hκ dX8_files_95 rfl ?_
            refine x_if_eq (tgt := 104) hκ dX8_files_97 (by decide) (fun c97 => ?_) (fun c97 => ?_)
            · -- X8_files 97T
              have i97 := c97
              simp (disch := omega) only [i32_lt, i32_le, i32_eq, Int32.reduceToInt, nI_toInt] at i97
              refine x_aload_n hκ dX8_files_104 rfl ?_
              refine x_iload hκ dX8_files_105 rfl ?_
              refine x_iload_n hκ dX8_files_107 rfl ?_
              refine x_aload_n hκ dX8_files_108 rfl ?_
              refine t_get hκ fl8_52 (by decide) (by decide) rfl (by (try simp (disch := omega) only [tS_1, tS_2, tA_1, tA_2, tF_1, tF_2, xl_0, xl_1, xl_2, Nat.reduceEqDiff, ↓reduceIte, nI_add, nI_1, nm_2, nm_3, nm_4, nm_6, nm_7, nm_8, nm_12, nm_16, nm_24, nm_40, nm_180, nm_300, nm_10210, na_0, na_2, na_3, na_4, na_5, na_6, na_7, na_8, nm_p, nm_m, nI_clamp]); exact rfl) dX8_files_109 ?_
              refine x_iconst (v := 0) hκ dX8_files_112 (by decide) ?_
              refine t_callv hκ (mX8_put_2 hθ (by rw [nI_toInt (by omega)]; omega) (by rw [nI_clamp (by omega)]; have := k1 (4 * b + t) (by omega); exact ⟨this.1, by have := this.2; show (s.2 40 (4 * b + t)).toInt ≤ 299; omega⟩) hm) (by omega) (by decide) wX8_275 aX8_put_2 rfl (Nat.le_of_ble_eq_true rfl) dX8_files_113 (fun σ113 h113 => ?_)
              subst h113
              rw [nI_clamp (n := 4 * b + t) (by omega)]
              refine x_aload_n hκ dX8_files_116 rfl ?_
              refine x_dup hκ dX8_files_117 rfl ?_
              refine t_get hκ fl8_44 (by decide) (by decide) rfl (by (try simp (disch := omega) only [tS_1, tS_2, tA_1, tA_2, tF_1, tF_2, xl_0, xl_1, xl_2, Nat.reduceEqDiff, ↓reduceIte, nI_add, nI_1, nm_2, nm_3, nm_4, nm_6, nm_7, nm_8, nm_12, nm_16, nm_24, nm_40, nm_180, nm_300, nm_10210, na_0, na_2, na_3, na_4, na_5, na_6, na_7, na_8, nm_p, nm_m, nI_clamp]); exact rfl) dX8_files_118 ?_
              refine x_iconst (v := 1) hκ dX8_files_121 (by decide) ?_
              refine x_iaddN hκ (by (try simp (disch := omega) only [tS_1, tS_2, tA_1, tA_2, tF_1, tF_2, xl_0, xl_1, xl_2, Nat.reduceEqDiff, ↓reduceIte, nI_add, nI_1, nm_2, nm_3, nm_4, nm_6, nm_7, nm_8, nm_12, nm_16, nm_24, nm_40, nm_180, nm_300, nm_10210, na_0, na_2, na_3, na_4, na_5, na_6, na_7, na_8, nm_p, nm_m, nI_clamp]); exact rfl) dX8_files_122 ?_
              refine t_put hκ fl8_44 (by decide) (by decide) rfl rfl rfl dX8_files_123 ?_
              refine x_iload_n hκ dX8_files_126 rfl ?_
              refine x_if_ne (tgt := 140) hκ dX8_files_127 (by decide) (fun c127 => ?_) (fun c127 => ?_)
              · -- X8_files 127T
                have i127 := c127
                simp (disch := omega) only [i32_lt, i32_le, i32_eq, Int32.reduceToInt, nI_toInt] at i127
                refine x_iconst (v := 1) hκ dX8_files_140 (by decide) ?_
                refine x_goto (tgt := 145) hκ dX8_files_141 (by decide) ?_
                refine x_istore_n hκ dX8_files_145 (by rw [hL]; decide) rfl ?_
                refine x_iincN (y := 1) hκ dX8_files_146 (by decide) rfl (by rw [hL]; decide) rfl (by (try simp (disch := omega) only [tS_1, tS_2, tA_1, tA_2, tF_1, tF_2, xl_0, xl_1, xl_2, Nat.reduceEqDiff, ↓reduceIte, nI_add, nI_1, nm_2, nm_3, nm_4, nm_6, nm_7, nm_8, nm_12, nm_16, nm_24, nm_40, nm_180, nm_300, nm_10210, na_0, na_2, na_3, na_4, na_5, na_6, na_7, na_8, nm_p, nm_m, nI_clamp]); exact rfl) ?_
                refine x_goto (tgt := 5) hκ dX8_files_149 (by decide) ?_
                rw [if_pos (Or.inl c127)] at nxt
                exact nxt _ _ rfl ht4
              · -- X8_files 127F
                have i127 := c127
                simp (disch := omega) only [i32_lt, i32_le, i32_eq, Int32.reduceToInt, nI_toInt] at i127
                refine x_iload hκ dX8_files_130 rfl ?_
                refine x_if_eq (tgt := 140) hκ dX8_files_132 (by decide) (fun c132 => ?_) (fun c132 => ?_)
                · -- X8_files 132T
                  have i132 := c132
                  simp (disch := omega) only [i32_lt, i32_le, i32_eq, Int32.reduceToInt, nI_toInt] at i132
                  refine x_iconst (v := 1) hκ dX8_files_140 (by decide) ?_
                  refine x_goto (tgt := 145) hκ dX8_files_141 (by decide) ?_
                  refine x_istore_n hκ dX8_files_145 (by rw [hL]; decide) rfl ?_
                  refine x_iincN (y := 1) hκ dX8_files_146 (by decide) rfl (by rw [hL]; decide) rfl (by (try simp (disch := omega) only [tS_1, tS_2, tA_1, tA_2, tF_1, tF_2, xl_0, xl_1, xl_2, Nat.reduceEqDiff, ↓reduceIte, nI_add, nI_1, nm_2, nm_3, nm_4, nm_6, nm_7, nm_8, nm_12, nm_16, nm_24, nm_40, nm_180, nm_300, nm_10210, na_0, na_2, na_3, na_4, na_5, na_6, na_7, na_8, nm_p, nm_m, nI_clamp]); exact rfl) ?_
                  refine x_goto (tgt := 5) hκ dX8_files_149 (by decide) ?_
                  rw [if_pos (Or.inr (by omega))] at nxt
                  exact nxt _ _ rfl ht4
                · -- X8_files 132F
                  have i132 := c132
                  simp (disch := omega) only [i32_lt, i32_le, i32_eq, Int32.reduceToInt, nI_toInt] at i132
                  refine x_iload hκ dX8_files_135 rfl ?_
                  refine x_if_eq (tgt := 144) hκ dX8_files_137 (by decide) (fun c137 => ?_) (fun c137 => ?_)
                  · -- X8_files 137T
                    have i137 := c137
                    simp (disch := omega) only [i32_lt, i32_le, i32_eq, Int32.reduceToInt, nI_toInt] at i137
                    refine x_iconst (v := 0) hκ dX8_files_144 (by decide) ?_
                    refine x_istore_n hκ dX8_files_145 (by rw [hL]; decide) rfl ?_
                    refine x_iincN (y := 1) hκ dX8_files_146 (by decide) rfl (by rw [hL]; decide) rfl (by (try simp (disch := omega) only [tS_1, tS_2, tA_1, tA_2, tF_1, tF_2, xl_0, xl_1, xl_2, Nat.reduceEqDiff, ↓reduceIte, nI_add, nI_1, nm_2, nm_3, nm_4, nm_6, nm_7, nm_8, nm_12, nm_16, nm_24, nm_40, nm_180, nm_300, nm_10210, na_0, na_2, na_3, na_4, na_5, na_6, na_7, na_8, nm_p, nm_m, nI_clamp]); exact rfl) ?_
                    refine x_goto (tgt := 5) hκ dX8_files_149 (by decide) ?_
                    rw [if_neg (fun z => z.elim (fun y => y c127) (fun y => by omega))] at nxt
                    exact nxt _ _ rfl ht4
                  · -- X8_files 137F
                    have i137 := c137
                    simp (disch := omega) only [i32_lt, i32_le, i32_eq, Int32.reduceToInt, nI_toInt] at i137
                    exact absurd rfl c137
            · -- X8_files 97F
              have i97 := c97
              simp (disch := omega) only [i32_lt, i32_le, i32_eq, Int32.reduceToInt, nI_toInt] at i97
              exact absurd rfl c97
          · -- X8_files 82F
            have i82 := c82
            simp (disch := omega) only [i32_lt, i32_le, i32_eq, Int32.reduceToInt, nI_toInt] at i82
            exact absurd rfl c82
        · -- X8_files 68F
          have i68 := c68
          simp (disch := omega) only [i32_lt, i32_le, i32_eq, Int32.reduceToInt, nI_toInt] at i68
          exact absurd rfl c68
      refine x_iload hκ dX8_files_5 rfl ?_
      refine x_iconst (v := 4) hκ dX8_files_7 (by decide) ?_
      refine x_icmp_ge (tgt := 152) hκ dX8_files_8 (by decide) (fun c8 => ?_) (fun c8 => ?_)
      · -- X8_files 8T
        have i8 := c8
        simp (disch := omega) only [i32_lt, i32_le, i32_eq, Int32.reduceToInt, nI_toInt] at i8
        refine t_retv hκ hr dX8_files_152 ?_
        obtain rfl : t = 4 := by omega
        exact hs.symm
      · -- X8_files 8F
        have i8 := c8
        simp (disch := omega) only [i32_lt, i32_le, i32_eq, Int32.reduceToInt, nI_toInt] at i8
        refine x_aload_n hκ dX8_files_11 rfl ?_
        refine t_get hκ fl8_49 (by decide) (by decide) rfl (by (try simp (disch := omega) only [tS_1, tS_2, tA_1, tA_2, tF_1, tF_2, xl_0, xl_1, xl_2, Nat.reduceEqDiff, ↓reduceIte, nI_add, nI_1, nm_2, nm_3, nm_4, nm_6, nm_7, nm_8, nm_12, nm_16, nm_24, nm_40, nm_180, nm_300, nm_10210, na_0, na_2, na_3, na_4, na_5, na_6, na_7, na_8, nm_p, nm_m, nI_clamp]); exact rfl) dX8_files_12 ?_
        refine x_iload hκ dX8_files_15 rfl ?_
        refine x_ishr hκ dX8_files_17 ?_
        refine x_iconst (v := 1) hκ dX8_files_18 (by decide) ?_
        refine x_iand hκ dX8_files_19 ?_
        refine x_iconst (v := 1) hκ dX8_files_20 (by decide) ?_
        refine x_icmp_ne (tgt := 146) hκ dX8_files_21 (by decide) (fun c21 => ?_) (fun c21 => ?_)
        · -- X8_files 21T
          have i21 := c21
          simp (disch := omega) only [i32_lt, i32_le, i32_eq, Int32.reduceToInt, nI_toInt] at i21
          refine x_iincN (y := 1) hκ dX8_files_146 (by decide) rfl (by rw [hL]; decide) rfl (by (try simp (disch := omega) only [tS_1, tS_2, tA_1, tA_2, tF_1, tF_2, xl_0, xl_1, xl_2, Nat.reduceEqDiff, ↓reduceIte, nI_add, nI_1, nm_2, nm_3, nm_4, nm_6, nm_7, nm_8, nm_12, nm_16, nm_24, nm_40, nm_180, nm_300, nm_10210, na_0, na_2, na_3, na_4, na_5, na_6, na_7, na_8, nm_p, nm_m, nI_clamp]); exact rfl) ?_
          refine x_goto (tgt := 5) hκ dX8_files_149 (by decide) ?_
          unfold flT at nxt
          rw [if_neg c21] at nxt
          exact nxt _ _ hlo (by omega)
        · -- X8_files 21F
          have i21 := c21
          simp (disch := omega) only [i32_lt, i32_le, i32_eq, Int32.reduceToInt, nI_toInt] at i21
          refine x_iconst (v := 4) hκ dX8_files_24 (by decide) ?_
          refine x_iload_n hκ dX8_files_25 rfl ?_
          refine x_imulN hκ (by (try simp (disch := omega) only [tS_1, tS_2, tA_1, tA_2, tF_1, tF_2, xl_0, xl_1, xl_2, Nat.reduceEqDiff, ↓reduceIte, nI_add, nI_1, nm_2, nm_3, nm_4, nm_6, nm_7, nm_8, nm_12, nm_16, nm_24, nm_40, nm_180, nm_300, nm_10210, na_0, na_2, na_3, na_4, na_5, na_6, na_7, na_8, nm_p, nm_m, nI_clamp]); exact rfl) dX8_files_26 ?_
          refine x_iload hκ dX8_files_27 rfl ?_
          refine x_iaddN hκ (by (try simp (disch := omega) only [tS_1, tS_2, tA_1, tA_2, tF_1, tF_2, xl_0, xl_1, xl_2, Nat.reduceEqDiff, ↓reduceIte, nI_add, nI_1, nm_2, nm_3, nm_4, nm_6, nm_7, nm_8, nm_12, nm_16, nm_24, nm_40, nm_180, nm_300, nm_10210, na_0, na_2, na_3, na_4, na_5, na_6, na_7, na_8, nm_p, nm_m, nI_clamp]); exact rfl) dX8_files_29 ?_
          refine x_istore hκ dX8_files_30 (by rw [hL]; decide) rfl ?_
          refine x_iload hκ dX8_files_32 rfl ?_
          refine x_if_le (tgt := 58) hκ dX8_files_34 (by decide) (fun c34 => ?_) (fun c34 => ?_)
          · -- X8_files 34T
            have i34 := c34
            simp (disch := omega) only [i32_lt, i32_le, i32_eq, Int32.reduceToInt, nI_toInt] at i34
            refine x_iconst (v := 0) hκ dX8_files_58 (by decide) ?_
            refine x_istore hκ dX8_files_59 (by rw [hL]; decide) rfl ?_
            exact JO (by omega) c21 (fun z => by have := z.1; omega)
          · -- X8_files 34F
            have i34 := c34
            simp (disch := omega) only [i32_lt, i32_le, i32_eq, Int32.reduceToInt, nI_toInt] at i34
            refine x_aload_n hκ dX8_files_37 rfl ?_
            refine t_getA hκ fl8_40 (by decide) (by decide) rfl dX8_files_38 ?_
            refine x_iload hκ dX8_files_41 rfl ?_
            refine t_iald (n := 12) hκ hθ (by decide) rfl rfl (by first | ((with_reducible refine vp_in_nI ?_ ?_) <;> omega) | exact i32_in (by omega) (by omega) | exact i32_in' (by simp only [Int32.toInt_add, Int32.toInt_mul, Int32.toInt_sub, Int32.reduceToInt, Int.bmod_add_bmod, Int.bmod_sub_bmod, Int.add_bmod_bmod, Int.sub_bmod_bmod, Int.bmod_mul_bmod, Int.mul_bmod_bmod]; exact i32_bm (by omega) (by omega)) (by omega) (by omega) | exact i32_in (by decide) (by decide)) (by (try simp (disch := omega) only [tS_1, tS_2, tA_1, tA_2, tF_1, tF_2, xl_0, xl_1, xl_2, Nat.reduceEqDiff, ↓reduceIte, nI_add, nI_1, nm_2, nm_3, nm_4, nm_6, nm_7, nm_8, nm_12, nm_16, nm_24, nm_40, nm_180, nm_300, nm_10210, na_0, na_2, na_3, na_4, na_5, na_6, na_7, na_8, nm_p, nm_m, nI_clamp]); exact rfl) dX8_files_43 ?_
            refine x_aload_n hκ dX8_files_44 rfl ?_
            refine t_getA hκ fl8_7 (by decide) (by decide) rfl dX8_files_45 ?_
            refine x_iload hκ dX8_files_48 rfl ?_
            refine t_iald (n := 12) hκ hθ (by decide) rfl rfl (by first | ((with_reducible refine vp_in_nI ?_ ?_) <;> omega) | exact i32_in (by omega) (by omega) | exact i32_in' (by simp only [Int32.toInt_add, Int32.toInt_mul, Int32.toInt_sub, Int32.reduceToInt, Int.bmod_add_bmod, Int.bmod_sub_bmod, Int.add_bmod_bmod, Int.sub_bmod_bmod, Int.bmod_mul_bmod, Int.mul_bmod_bmod]; exact i32_bm (by omega) (by omega)) (by omega) (by omega) | exact i32_in (by decide) (by decide)) (by (try simp (disch := omega) only [tS_1, tS_2, tA_1, tA_2, tF_1, tF_2, xl_0, xl_1, xl_2, Nat.reduceEqDiff, ↓reduceIte, nI_add, nI_1, nm_2, nm_3, nm_4, nm_6, nm_7, nm_8, nm_12, nm_16, nm_24, nm_40, nm_180, nm_300, nm_10210, na_0, na_2, na_3, na_4, na_5, na_6, na_7, na_8, nm_p, nm_m, nI_clamp]); exact rfl) dX8_files_50 ?_
            refine x_icmp_lt (tgt := 58) hκ dX8_files_51 (by decide) (fun c51 => ?_) (fun c51 => ?_)
            · -- X8_files 51T
              have i51 := c51
              simp (disch := omega) only [i32_lt, i32_le, i32_eq, Int32.reduceToInt, nI_toInt] at i51
              refine x_iconst (v := 0) hκ dX8_files_58 (by decide) ?_
              refine x_istore hκ dX8_files_59 (by rw [hL]; decide) rfl ?_
              exact JO (by omega) c21 (fun z => z.2 i51)
            · -- X8_files 51F
              have i51 := c51
              simp (disch := omega) only [i32_lt, i32_le, i32_eq, Int32.reduceToInt, nI_toInt] at i51
              refine x_iconst (v := 1) hκ dX8_files_54 (by decide) ?_
              refine x_goto (tgt := 59) hκ dX8_files_55 (by decide) ?_
              refine x_istore hκ dX8_files_59 (by rw [hL]; decide) rfl ?_
              exact JN (by omega) c21 ⟨by omega, i51⟩
  refine x_iconst (v := 0) hκ dX8_files_0 (by decide) ?_
  refine x_istore_n hκ dX8_files_1 (by rw [hL]; decide) rfl ?_
  refine x_iconst (v := 0) hκ dX8_files_2 (by decide) ?_
  refine x_istore hκ dX8_files_3 (by rw [hL]; decide) rfl ?_
  exact loop 5 0 none none rfl (by omega) (by omega)
