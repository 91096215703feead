
/-! the reference: acts -/
def acd (c : Int32) : Option (Int32 × Option Int32) :=
  if c = 70 then some (0, some 3) else if c = 75 then some (0, none) else if c = 71 then some (4, some 2) else if c = 88 then some (7, none) else if c = 86 then some (8, none) else if c = 77 then some (9, none) else if c = 83 then some (10, none) else none
/-- an act from a on: a fault's place; or where it ends, and its code -/
def act1 (T : Nat → Int32) (N a : Nat) : Nat ⊕ (Nat × Int32) :=
  match acd (cur T N (skp T N a)) with
  | none => .inl (skp T N a)
  | some (k, none) => .inr (skp T N a + 1, k + 0)
  | some (k, some m) => match nm T N (skp T N a + 1) m with
    | .inl p => .inl p
    | .inr q => .inr (q.1, k + q.2)
theorem act1_n {T : Nat → Int32} {N a : Nat} (h : acd (cur T N (skp T N a)) = none) : act1 T N a = .inl (skp T N a) := by unfold act1; rw [h]
theorem act1_0 {T : Nat → Int32} {N a : Nat} {k : Int32} (h : acd (cur T N (skp T N a)) = some (k, none)) : act1 T N a = .inr (skp T N a + 1, k + 0) := by unfold act1; rw [h]
theorem act1_l {T : Nat → Int32} {N a p : Nat} {k m : Int32} (h : acd (cur T N (skp T N a)) = some (k, some m)) (h2 : nm T N (skp T N a + 1) m = .inl p) : act1 T N a = .inl p := by unfold act1; rw [h]; simp only [h2]
theorem act1_r {T : Nat → Int32} {N a e : Nat} {k m v : Int32} (h : acd (cur T N (skp T N a)) = some (k, some m)) (h2 : nm T N (skp T N a + 1) m = .inr (e, v)) : act1 T N a = .inr (e, k + v) := by unfold act1; rw [h]; simp only [h2]
abbrev raS : List Nat := [9, 10, 17, 18]
theorem mX8_act {E : gE} {θ : TA} (hθ : tOk θ) {σ : TS} {a N r j : Nat} (h9 : σ.1 9 = nI a) (hT : σ.1 1 = nI N) (hN : N ≤ 90) (ha : a ≤ 100) (h10 : σ.1 10 = -1) (hr6 : r < 6) (hj : σ.2 18 r = nI j) (hj4 : j < 4) : TMv E θ σ yX8_act cX8_act 4 2 [.int (nI r)] (fun σ' => (∀ p, act1 (σ.2 0) N a = .inl p → Fr raS σ σ' ∧ σ'.1 10 = nI p ∧ ∃ b, b ≤ 300 ∧ σ'.1 9 = nI b) ∧ ∀ e x, act1 (σ.2 0) N a = .inr (e, x) → σ' = tA (tA (tS σ 9 (nI e)) 17 (4 * r + j) x) 18 r (nI (j + 1))) := by
  refine TMv.of (by decide) (Nat.le_of_ble_eq_true rfl) ?_
  rintro κ rfl hL hκ hr
  have hsk := skp_le (T := σ.2 0) (N := N) (N - a) a
  generalize hs : skp (σ.2 0) N a = a1
  rw [show skF (σ.2 0) N (N - a) a = a1 from hs] at hsk
  have neg1 : (-1 : Int32).toInt < 0 := by decide
  generalize hcu : cur (σ.2 0) N a1 = cc0
  -- behind the number: the code's rest is added, and put
  have J134 : ∀ (k v : Int32) (σc : TS), σc.2 18 r = nI j → (tA (tA σc 17 (4 * r + j) (k + v)) 18 r (nI (j + 1)) = tA (tA σc 17 (4 * r + j) (k + v)) 18 r (nI (j + 1)) → (∀ p, act1 (σ.2 0) N a = .inl p → Fr raS σ (tA (tA σc 17 (4 * r + j) (k + v)) 18 r (nI (j + 1))) ∧ (tA (tA σc 17 (4 * r + j) (k + v)) 18 r (nI (j + 1))).1 10 = nI p ∧ ∃ b, b ≤ 300 ∧ (tA (tA σc 17 (4 * r + j) (k + v)) 18 r (nI (j + 1))).1 9 = nI b) ∧ ∀ e x, act1 (σ.2 0) N a = .inr (e, x) → tA (tA σc 17 (4 * r + j) (k + v)) 18 r (nI (j + 1)) = tA (tA (tS σ 9 (nI e)) 17 (4 * r + j) x) 18 r (nI (j + 1))) → X κ (tG (kE κ) θ σc) 0 0 134 [some (.ref θ.1), some (.int (nI r)), some (.int cc0), some (.int k)] [.int v, .int k] := by
    intro k v σc h18 hend
    refine x_iadd hκ dX8_act_134 ?_
    refine x_istore_n hκ dX8_act_135 (by rw [hL]; decide) rfl ?_
    refine x_aload_n hκ dX8_act_136 rfl ?_
    refine t_getA hκ fl8_17 (by decide) (by decide) rfl dX8_act_137 ?_
    refine x_iconst (v := 4) hκ dX8_act_140 (by decide) ?_
    refine x_iload_n hκ dX8_act_141 rfl ?_
    refine x_imulN hκ (by (try simp (disch := omega) only [tS_1, tS_2, tA_1, tA_2, tF_1, tF_2, xl_0, xl_1, xl_2, Nat.reduceEqDiff, ↓reduceIte, nI_add, nI_1, nm_2, nm_3, nm_4, nm_6, nm_7, nm_8, nm_12, nm_16, nm_24, nm_40, nm_180, nm_300, nm_10210, na_0, na_2, na_3, na_4, na_5, na_6, na_7, na_8, nm_p, nm_m, nI_clamp, h18]); exact rfl) dX8_act_142 ?_
    refine x_aload_n hκ dX8_act_143 rfl ?_
    refine t_getA hκ fl8_18 (by decide) (by decide) rfl dX8_act_144 ?_
    refine x_iload_n hκ dX8_act_147 rfl ?_
    refine t_iald (n := 6) hκ hθ (by decide) rfl rfl (by first | ((with_reducible refine vp_in_nI ?_ ?_) <;> omega) | exact i32_in (by omega) (by omega) | exact i32_in' (by simp only [Int32.toInt_add, Int32.toInt_mul, Int32.toInt_sub, Int32.reduceToInt, Int.bmod_add_bmod, Int.bmod_sub_bmod, Int.add_bmod_bmod, Int.sub_bmod_bmod, Int.bmod_mul_bmod, Int.mul_bmod_bmod]; exact i32_bm (by omega) (by omega)) (by omega) (by omega) | exact i32_in (by decide) (by decide)) (by (try simp (disch := omega) only [tS_1, tS_2, tA_1, tA_2, tF_1, tF_2, xl_0, xl_1, xl_2, Nat.reduceEqDiff, ↓reduceIte, nI_add, nI_1, nm_2, nm_3, nm_4, nm_6, nm_7, nm_8, nm_12, nm_16, nm_24, nm_40, nm_180, nm_300, nm_10210, na_0, na_2, na_3, na_4, na_5, na_6, na_7, na_8, nm_p, nm_m, nI_clamp, h18]); exact rfl) dX8_act_148 ?_
    refine x_iaddN hκ (by (try simp (disch := omega) only [tS_1, tS_2, tA_1, tA_2, tF_1, tF_2, xl_0, xl_1, xl_2, Nat.reduceEqDiff, ↓reduceIte, nI_add, nI_1, nm_2, nm_3, nm_4, nm_6, nm_7, nm_8, nm_12, nm_16, nm_24, nm_40, nm_180, nm_300, nm_10210, na_0, na_2, na_3, na_4, na_5, na_6, na_7, na_8, nm_p, nm_m, nI_clamp, h18]); exact rfl) dX8_act_149 ?_
    refine x_iload_n hκ dX8_act_150 rfl ?_
    refine t_iast (n := 24) hκ hθ (by decide) rfl rfl (by first | ((with_reducible refine vp_in_nI ?_ ?_) <;> omega) | exact i32_in (by omega) (by omega) | exact i32_in' (by simp only [Int32.toInt_add, Int32.toInt_mul, Int32.toInt_sub, Int32.reduceToInt, Int.bmod_add_bmod, Int.bmod_sub_bmod, Int.add_bmod_bmod, Int.sub_bmod_bmod, Int.bmod_mul_bmod, Int.mul_bmod_bmod]; exact i32_bm (by omega) (by omega)) (by omega) (by omega) | exact i32_in (by decide) (by decide)) (by (try simp (disch := omega) only [tS_1, tS_2, tA_1, tA_2, tF_1, tF_2, xl_0, xl_1, xl_2, Nat.reduceEqDiff, ↓reduceIte, nI_add, nI_1, nm_2, nm_3, nm_4, nm_6, nm_7, nm_8, nm_12, nm_16, nm_24, nm_40, nm_180, nm_300, nm_10210, na_0, na_2, na_3, na_4, na_5, na_6, na_7, na_8, nm_p, nm_m, nI_clamp, h18]); exact rfl) dX8_act_151 ?_
    refine x_aload_n hκ dX8_act_152 rfl ?_
    refine t_getA hκ fl8_18 (by decide) (by decide) rfl dX8_act_153 ?_
    refine x_iload_n hκ dX8_act_156 rfl ?_
    refine x_dup2 hκ dX8_act_157 rfl rfl ?_
    refine t_iald (n := 6) hκ hθ (by decide) rfl rfl (by first | ((with_reducible refine vp_in_nI ?_ ?_) <;> omega) | exact i32_in (by omega) (by omega) | exact i32_in' (by simp only [Int32.toInt_add, Int32.toInt_mul, Int32.toInt_sub, Int32.reduceToInt, Int.bmod_add_bmod, Int.bmod_sub_bmod, Int.add_bmod_bmod, Int.sub_bmod_bmod, Int.bmod_mul_bmod, Int.mul_bmod_bmod]; exact i32_bm (by omega) (by omega)) (by omega) (by omega) | exact i32_in (by decide) (by decide)) (by (try simp (disch := omega) only [tS_1, tS_2, tA_1, tA_2, tF_1, tF_2, xl_0, xl_1, xl_2, Nat.reduceEqDiff, ↓reduceIte, nI_add, nI_1, nm_2, nm_3, nm_4, nm_6, nm_7, nm_8, nm_12, nm_16, nm_24, nm_40, nm_180, nm_300, nm_10210, na_0, na_2, na_3, na_4, na_5, na_6, na_7, na_8, nm_p, nm_m, nI_clamp, h18]); exact rfl) dX8_act_158 ?_
    refine x_iconst (v := 1) hκ dX8_act_159 (by decide) ?_
    refine x_iaddN hκ (by (try simp (disch := omega) only [tS_1, tS_2, tA_1, tA_2, tF_1, tF_2, xl_0, xl_1, xl_2, Nat.reduceEqDiff, ↓reduceIte, nI_add, nI_1, nm_2, nm_3, nm_4, nm_6, nm_7, nm_8, nm_12, nm_16, nm_24, nm_40, nm_180, nm_300, nm_10210, na_0, na_2, na_3, na_4, na_5, na_6, na_7, na_8, nm_p, nm_m, nI_clamp, h18]); exact rfl) dX8_act_160 ?_
    refine t_iast (n := 6) hκ hθ (by decide) rfl rfl (by first | ((with_reducible refine vp_in_nI ?_ ?_) <;> omega) | exact i32_in (by omega) (by omega) | exact i32_in' (by simp only [Int32.toInt_add, Int32.toInt_mul, Int32.toInt_sub, Int32.reduceToInt, Int.bmod_add_bmod, Int.bmod_sub_bmod, Int.add_bmod_bmod, Int.sub_bmod_bmod, Int.bmod_mul_bmod, Int.mul_bmod_bmod]; exact i32_bm (by omega) (by omega)) (by omega) (by omega) | exact i32_in (by decide) (by decide)) (by (try simp (disch := omega) only [tS_1, tS_2, tA_1, tA_2, tF_1, tF_2, xl_0, xl_1, xl_2, Nat.reduceEqDiff, ↓reduceIte, nI_add, nI_1, nm_2, nm_3, nm_4, nm_6, nm_7, nm_8, nm_12, nm_16, nm_24, nm_40, nm_180, nm_300, nm_10210, na_0, na_2, na_3, na_4, na_5, na_6, na_7, na_8, nm_p, nm_m, nI_clamp, h18]); exact rfl) dX8_act_161 ?_
    refine t_retv hκ hr dX8_act_162 ?_
    exact hend rfl
  have Jk : ∀ k : Int32, acd cc0 = some (k, none) → ¬ cc0 = 70 → ¬ cc0 = 71 → 0 ≤ k.toInt → X κ (tG (kE κ) θ (tS σ 9 (nI a1))) 0 0 81 [some (.ref θ.1), some (.int (nI r)), some (.int cc0), some (.int k)] [] := by
    intro k hk n70 n71 h0
    have hac : act1 (σ.2 0) N a = .inr (a1 + 1, k + 0) := by rw [← hs]; exact act1_0 (by rw [hs, hcu]; exact hk)
    refine x_iload_n hκ dX8_act_81 rfl ?_
    refine x_if_ge (tgt := 94) hκ dX8_act_82 (by decide) (fun c82 => ?_) (fun c82 => ?_)
    · -- X8_act 82T
      have i82 := c82
      simp (disch := omega) only [i32_lt, i32_le, i32_eq, Int32.reduceToInt, nI_toInt] at i82
      refine x_aload_n hκ dX8_act_94 rfl ?_
      refine x_dup hκ dX8_act_95 rfl ?_
      refine t_get hκ fl8_9 (by decide) (by decide) rfl (by (try simp (disch := omega) only [tS_1, tS_2, tA_1, tA_2, tF_1, tF_2, xl_0, xl_1, xl_2, Nat.reduceEqDiff, ↓reduceIte, nI_add, nI_1, nm_2, nm_3, nm_4, nm_6, nm_7, nm_8, nm_12, nm_16, nm_24, nm_40, nm_180, nm_300, nm_10210, na_0, na_2, na_3, na_4, na_5, na_6, na_7, na_8, nm_p, nm_m, nI_clamp]); exact rfl) dX8_act_96 ?_
      refine x_iconst (v := 1) hκ dX8_act_99 (by decide) ?_
      refine x_iaddN hκ (by (try simp (disch := omega) only [tS_1, tS_2, tA_1, tA_2, tF_1, tF_2, xl_0, xl_1, xl_2, Nat.reduceEqDiff, ↓reduceIte, nI_add, nI_1, nm_2, nm_3, nm_4, nm_6, nm_7, nm_8, nm_12, nm_16, nm_24, nm_40, nm_180, nm_300, nm_10210, na_0, na_2, na_3, na_4, na_5, na_6, na_7, na_8, nm_p, nm_m, nI_clamp]); exact rfl) dX8_act_100 ?_
      refine t_put hκ fl8_9 (by decide) (by decide) rfl rfl rfl dX8_act_101 ?_
      refine x_iload_n hκ dX8_act_104 rfl ?_
      refine x_iload_n hκ dX8_act_105 rfl ?_
      refine x_bipush (v := 70) hκ dX8_act_106 (by decide) ?_
      refine x_icmp_ne (tgt := 119) hκ dX8_act_108 (by decide) (fun c108 => ?_) (fun c108 => ?_)
      · -- X8_act 108T
        have i108 := c108
        simp (disch := omega) only [i32_lt, i32_le, i32_eq, Int32.reduceToInt, nI_toInt] at i108
        refine x_iload_n hκ dX8_act_119 rfl ?_
        refine x_bipush (v := 71) hκ dX8_act_120 (by decide) ?_
        refine x_icmp_ne (tgt := 133) hκ dX8_act_122 (by decide) (fun c122 => ?_) (fun c122 => ?_)
        · -- X8_act 122T
          have i122 := c122
          simp (disch := omega) only [i32_lt, i32_le, i32_eq, Int32.reduceToInt, nI_toInt] at i122
          refine x_iconst (v := 0) hκ dX8_act_133 (by decide) ?_
          rw [tS_tS]
          refine J134 k 0 _ hj (fun _ => ⟨fun p hp => (by rw [hac] at hp; cases hp), fun e x hp => (by rw [hac] at hp; cases hp; rfl)⟩)
        · -- X8_act 122F
          have i122 := c122
          simp (disch := omega) only [i32_lt, i32_le, i32_eq, Int32.reduceToInt, nI_toInt] at i122
          exact absurd c122 n71
      · -- X8_act 108F
        have i108 := c108
        simp (disch := omega) only [i32_lt, i32_le, i32_eq, Int32.reduceToInt, nI_toInt] at i108
        exact absurd c108 n70
    · -- X8_act 82F
      have i82 := c82
      simp (disch := omega) only [i32_lt, i32_le, i32_eq, Int32.reduceToInt, nI_toInt] at i82
      omega
  have Jn : ∀ k most : Int32, acd cc0 = some (k, some most) → ((cc0 = 70 ∧ most = 3) ∨ (¬ cc0 = 70 ∧ cc0 = 71 ∧ most = 2)) → 0 ≤ k.toInt → X κ (tG (kE κ) θ (tS σ 9 (nI a1))) 0 0 81 [some (.ref θ.1), some (.int (nI r)), some (.int cc0), some (.int k)] [] := by
    intro k most hk hcm h0
    have fin : ∀ (r0 : Int32) (σn : TS), ((∀ p, nm (σ.2 0) N (a1 + 1) most = .inl p → ∃ b, b ≤ 200 ∧ σn = flt (tS (tS σ 9 (nI (a1 + 1))) 9 (nI b)) p) ∧ ∀ e v, nm (σ.2 0) N (a1 + 1) most = .inr (e, v) → r0 = v ∧ σn = tS (tS σ 9 (nI (a1 + 1))) 9 (nI e)) → X κ (tG (kE κ) θ σn) 0 0 134 [some (.ref θ.1), some (.int (nI r)), some (.int cc0), some (.int k)] [.int r0, .int k] := by
      intro r0 σn hn
      cases hnm : nm (σ.2 0) N (a1 + 1) most with
      | inl p =>
        obtain ⟨b, hb, rfl⟩ := hn.1 p hnm
        have hac : act1 (σ.2 0) N a = .inl p := act1_l (k := k) (m := most) (by rw [hs, hcu]; exact hk) (by rw [hs]; exact hnm)
        refine J134 k r0 _ hj (fun _ => ⟨fun p' hp => (by
          rw [hac] at hp
          cases hp
          refine ⟨((((((Fr.rf _ σ).S rfl _).S rfl _).S rfl _).A rfl _ _).A rfl _ _), ?_, b, by omega, rfl⟩
          show (if (σ.1 10).toInt < 0 then nI p else σ.1 10) = nI p
          rw [h10, if_pos neg1]), fun e x hp => (by rw [hac] at hp; cases hp)⟩)
      | inr q =>
        obtain ⟨e, v⟩ := q
        obtain ⟨rfl, rfl⟩ := hn.2 e v hnm
        have hac : act1 (σ.2 0) N a = .inr (e, k + r0) := act1_r (k := k) (m := most) (by rw [hs, hcu]; exact hk) (by rw [hs]; exact hnm)
        refine J134 k r0 _ hj (fun _ => ⟨fun p' hp => (by rw [hac] at hp; cases hp), fun e' x hp => (by rw [hac] at hp; cases hp; rw [tS_tS])⟩)
    refine x_iload_n hκ dX8_act_81 rfl ?_
    refine x_if_ge (tgt := 94) hκ dX8_act_82 (by decide) (fun c82 => ?_) (fun c82 => ?_)
    · -- X8_act 82T
      have i82 := c82
      simp (disch := omega) only [i32_lt, i32_le, i32_eq, Int32.reduceToInt, nI_toInt] at i82
      refine x_aload_n hκ dX8_act_94 rfl ?_
      refine x_dup hκ dX8_act_95 rfl ?_
      refine t_get hκ fl8_9 (by decide) (by decide) rfl (by (try simp (disch := omega) only [tS_1, tS_2, tA_1, tA_2, tF_1, tF_2, xl_0, xl_1, xl_2, Nat.reduceEqDiff, ↓reduceIte, nI_add, nI_1, nm_2, nm_3, nm_4, nm_6, nm_7, nm_8, nm_12, nm_16, nm_24, nm_40, nm_180, nm_300, nm_10210, na_0, na_2, na_3, na_4, na_5, na_6, na_7, na_8, nm_p, nm_m, nI_clamp]); exact rfl) dX8_act_96 ?_
      refine x_iconst (v := 1) hκ dX8_act_99 (by decide) ?_
      refine x_iaddN hκ (by (try simp (disch := omega) only [tS_1, tS_2, tA_1, tA_2, tF_1, tF_2, xl_0, xl_1, xl_2, Nat.reduceEqDiff, ↓reduceIte, nI_add, nI_1, nm_2, nm_3, nm_4, nm_6, nm_7, nm_8, nm_12, nm_16, nm_24, nm_40, nm_180, nm_300, nm_10210, na_0, na_2, na_3, na_4, na_5, na_6, na_7, na_8, nm_p, nm_m, nI_clamp]); exact rfl) dX8_act_100 ?_
      refine t_put hκ fl8_9 (by decide) (by decide) rfl rfl rfl dX8_act_101 ?_
      rw [tS_tS]
      refine x_iload_n hκ dX8_act_104 rfl ?_
      refine x_iload_n hκ dX8_act_105 rfl ?_
      refine x_bipush (v := 70) hκ dX8_act_106 (by decide) ?_
      refine x_icmp_ne (tgt := 119) hκ dX8_act_108 (by decide) (fun c108 => ?_) (fun c108 => ?_)
      · -- X8_act 108T
        have i108 := c108
        simp (disch := omega) only [i32_lt, i32_le, i32_eq, Int32.reduceToInt, nI_toInt] at i108
        refine x_iload_n hκ dX8_act_119 rfl ?_
        refine x_bipush (v := 71) hκ dX8_act_120 (by decide) ?_
        refine x_icmp_ne (tgt := 133) hκ dX8_act_122 (by decide) (fun c122 => ?_) (fun c122 => ?_)
        · -- X8_act 122T
          have i122 := c122
          simp (disch := omega) only [i32_lt, i32_le, i32_eq, Int32.reduceToInt, nI_toInt] at i122
          refine x_iconst (v := 0) hκ dX8_act_133 (by decide) ?_
          rcases hcm with ⟨z, -⟩ | ⟨-, z, -⟩
          · exact absurd z c108
          · exact absurd z c122
        · -- X8_act 122F
          have i122 := c122
          simp (disch := omega) only [i32_lt, i32_le, i32_eq, Int32.reduceToInt, nI_toInt] at i122
          refine x_aload_n hκ dX8_act_125 rfl ?_
          refine x_iconst (v := 2) hκ dX8_act_126 (by decide) ?_
          refine t_calli hκ (mX8_number hθ (a := a1 + 1) (N := N) (by exact rfl) (by exact hT) hN (by omega)) (by omega) (by decide) wX8_150 aX8_number rfl (Nat.le_of_ble_eq_true rfl) dX8_act_127 (fun r127 σ127 h127 => ?_)
          refine x_goto (tgt := 134) hκ dX8_act_130 (by decide) ?_
          rcases hcm with ⟨z, -⟩ | ⟨-, -, rfl⟩
          · exact absurd z c108
          · exact fin r127 σ127 h127
      · -- X8_act 108F
        have i108 := c108
        simp (disch := omega) only [i32_lt, i32_le, i32_eq, Int32.reduceToInt, nI_toInt] at i108
        refine x_aload_n hκ dX8_act_111 rfl ?_
        refine x_iconst (v := 3) hκ dX8_act_112 (by decide) ?_
        refine t_calli hκ (mX8_number hθ (a := a1 + 1) (N := N) (by exact rfl) (by exact hT) hN (by omega)) (by omega) (by decide) wX8_150 aX8_number rfl (Nat.le_of_ble_eq_true rfl) dX8_act_113 (fun r113 σ113 h113 => ?_)
        refine x_goto (tgt := 134) hκ dX8_act_116 (by decide) ?_
        rcases hcm with ⟨-, rfl⟩ | ⟨z, -⟩
        · exact fin r113 σ113 h113
        · exact absurd c108 z
    · -- X8_act 82F
      have i82 := c82
      simp (disch := omega) only [i32_lt, i32_le, i32_eq, Int32.reduceToInt, nI_toInt] at i82
      omega
  refine x_aload_n hκ dX8_act_0 rfl ?_
  refine t_calli hκ (mX8_next hθ h9 hT hN (by omega)) (by omega) (by decide) wX8_138 aX8_next rfl (Nat.le_of_ble_eq_true rfl) dX8_act_1 (fun r1 σ1 h1 => ?_)
  rw [hs, hcu] at h1
  obtain ⟨rfl, rfl⟩ := h1
  refine x_istore_n hκ dX8_act_4 (by rw [hL]; decide) rfl ?_
  refine x_iload_n hκ dX8_act_5 rfl ?_
  refine x_bipush (v := 70) hκ dX8_act_6 (by decide) ?_
  refine x_icmp_ne (tgt := 15) hκ dX8_act_8 (by decide) (fun c8 => ?_) (fun c8 => ?_)
  · -- X8_act 8T
    have i8 := c8
    simp (disch := omega) only [i32_lt, i32_le, i32_eq, Int32.reduceToInt, nI_toInt] at i8
    refine x_iload_n hκ dX8_act_15 rfl ?_
    refine x_bipush (v := 75) hκ dX8_act_16 (by decide) ?_
    refine x_icmp_ne (tgt := 25) hκ dX8_act_18 (by decide) (fun c18 => ?_) (fun c18 => ?_)
    · -- X8_act 18T
      have i18 := c18
      simp (disch := omega) only [i32_lt, i32_le, i32_eq, Int32.reduceToInt, nI_toInt] at i18
      refine x_iload_n hκ dX8_act_25 rfl ?_
      refine x_bipush (v := 71) hκ dX8_act_26 (by decide) ?_
      refine x_icmp_ne (tgt := 35) hκ dX8_act_28 (by decide) (fun c28 => ?_) (fun c28 => ?_)
      · -- X8_act 28T
        have i28 := c28
        simp (disch := omega) only [i32_lt, i32_le, i32_eq, Int32.reduceToInt, nI_toInt] at i28
        refine x_iload_n hκ dX8_act_35 rfl ?_
        refine x_bipush (v := 88) hκ dX8_act_36 (by decide) ?_
        refine x_icmp_ne (tgt := 46) hκ dX8_act_38 (by decide) (fun c38 => ?_) (fun c38 => ?_)
        · -- X8_act 38T
          have i38 := c38
          simp (disch := omega) only [i32_lt, i32_le, i32_eq, Int32.reduceToInt, nI_toInt] at i38
          refine x_iload_n hκ dX8_act_46 rfl ?_
          refine x_bipush (v := 86) hκ dX8_act_47 (by decide) ?_
          refine x_icmp_ne (tgt := 57) hκ dX8_act_49 (by decide) (fun c49 => ?_) (fun c49 => ?_)
          · -- X8_act 49T
            have i49 := c49
            simp (disch := omega) only [i32_lt, i32_le, i32_eq, Int32.reduceToInt, nI_toInt] at i49
            refine x_iload_n hκ dX8_act_57 rfl ?_
            refine x_bipush (v := 77) hκ dX8_act_58 (by decide) ?_
            refine x_icmp_ne (tgt := 68) hκ dX8_act_60 (by decide) (fun c60 => ?_) (fun c60 => ?_)
            · -- X8_act 60T
              have i60 := c60
              simp (disch := omega) only [i32_lt, i32_le, i32_eq, Int32.reduceToInt, nI_toInt] at i60
              refine x_iload_n hκ dX8_act_68 rfl ?_
              refine x_bipush (v := 83) hκ dX8_act_69 (by decide) ?_
              refine x_icmp_ne (tgt := 79) hκ dX8_act_71 (by decide) (fun c71 => ?_) (fun c71 => ?_)
              · -- X8_act 71T
                have i71 := c71
                simp (disch := omega) only [i32_lt, i32_le, i32_eq, Int32.reduceToInt, nI_toInt] at i71
                refine x_iconst (v := (-1)) hκ dX8_act_79 (by decide) ?_
                refine x_istore_n hκ dX8_act_80 (by rw [hL]; decide) rfl ?_
                refine x_iload_n hκ dX8_act_81 rfl ?_
                refine x_if_ge (tgt := 94) hκ dX8_act_82 (by decide) (fun c82 => ?_) (fun c82 => ?_)
                · -- X8_act 82T
                  have i82 := c82
                  simp (disch := omega) only [i32_lt, i32_le, i32_eq, Int32.reduceToInt, nI_toInt] at i82
                  exact absurd c82 (by decide)
                · -- X8_act 82F
                  have i82 := c82
                  simp (disch := omega) only [i32_lt, i32_le, i32_eq, Int32.reduceToInt, nI_toInt] at i82
                  refine x_aload_n hκ dX8_act_85 rfl ?_
                  refine x_aload_n hκ dX8_act_86 rfl ?_
                  refine t_get hκ fl8_9 (by decide) (by decide) rfl (by (try simp (disch := omega) only [tS_1, tS_2, tA_1, tA_2, tF_1, tF_2, xl_0, xl_1, xl_2, Nat.reduceEqDiff, ↓reduceIte, nI_add, nI_1, nm_2, nm_3, nm_4, nm_6, nm_7, nm_8, nm_12, nm_16, nm_24, nm_40, nm_180, nm_300, nm_10210, na_0, na_2, na_3, na_4, na_5, na_6, na_7, na_8, nm_p, nm_m, nI_clamp]); exact rfl) dX8_act_87 ?_
                  refine t_callv hκ (mX8_fails hθ) (by omega) (by decide) wX8_142 aX8_fails rfl (Nat.le_of_ble_eq_true rfl) dX8_act_90 (fun σ90 h90 => ?_)
                  subst h90
                  refine t_retv hκ hr dX8_act_93 ?_
                  have hac : act1 (σ.2 0) N a = .inl a1 := by rw [← hs]; exact act1_n (by rw [hs, hcu]; unfold acd; rw [if_neg c8, if_neg c18, if_neg c28, if_neg c38, if_neg c49, if_neg c60, if_neg c71])
                  refine ⟨fun p hp => ?_, fun e x hp => (by rw [hac] at hp; cases hp)⟩
                  rw [hac] at hp
                  cases hp
                  refine ⟨((Fr.rf _ σ).S rfl _).S rfl _, ?_, a1, by omega, rfl⟩
                  show (if (σ.1 10).toInt < 0 then nI a1 else σ.1 10) = nI a1
                  rw [h10, if_pos neg1]
              · -- X8_act 71F
                have i71 := c71
                simp (disch := omega) only [i32_lt, i32_le, i32_eq, Int32.reduceToInt, nI_toInt] at i71
                refine x_bipush (v := 10) hκ dX8_act_74 (by decide) ?_
                refine x_goto (tgt := 80) hκ dX8_act_76 (by decide) ?_
                refine x_istore_n hκ dX8_act_80 (by rw [hL]; decide) rfl ?_
                exact Jk 10 (by unfold acd; rw [if_neg c8, if_neg c18, if_neg c28, if_neg c38, if_neg c49, if_neg c60, if_pos c71]) c8 c28 (by decide)
            · -- X8_act 60F
              have i60 := c60
              simp (disch := omega) only [i32_lt, i32_le, i32_eq, Int32.reduceToInt, nI_toInt] at i60
              refine x_bipush (v := 9) hκ dX8_act_63 (by decide) ?_
              refine x_goto (tgt := 80) hκ dX8_act_65 (by decide) ?_
              refine x_istore_n hκ dX8_act_80 (by rw [hL]; decide) rfl ?_
              exact Jk 9 (by unfold acd; rw [if_neg c8, if_neg c18, if_neg c28, if_neg c38, if_neg c49, if_pos c60]) c8 c28 (by decide)
          · -- X8_act 49F
            have i49 := c49
            simp (disch := omega) only [i32_lt, i32_le, i32_eq, Int32.reduceToInt, nI_toInt] at i49
            refine x_bipush (v := 8) hκ dX8_act_52 (by decide) ?_
            refine x_goto (tgt := 80) hκ dX8_act_54 (by decide) ?_
            refine x_istore_n hκ dX8_act_80 (by rw [hL]; decide) rfl ?_
            exact Jk 8 (by unfold acd; rw [if_neg c8, if_neg c18, if_neg c28, if_neg c38, if_pos c49]) c8 c28 (by decide)
        · -- X8_act 38F
          have i38 := c38
          simp (disch := omega) only [i32_lt, i32_le, i32_eq, Int32.reduceToInt, nI_toInt] at i38
          refine x_bipush (v := 7) hκ dX8_act_41 (by decide) ?_
          refine x_goto (tgt := 80) hκ dX8_act_43 (by decide) ?_
          refine x_istore_n hκ dX8_act_80 (by rw [hL]; decide) rfl ?_
          exact Jk 7 (by unfold acd; rw [if_neg c8, if_neg c18, if_neg c28, if_pos c38]) c8 c28 (by decide)
      · -- X8_act 28F
        have i28 := c28
        simp (disch := omega) only [i32_lt, i32_le, i32_eq, Int32.reduceToInt, nI_toInt] at i28
        refine x_iconst (v := 4) hκ dX8_act_31 (by decide) ?_
        refine x_goto (tgt := 80) hκ dX8_act_32 (by decide) ?_
        refine x_istore_n hκ dX8_act_80 (by rw [hL]; decide) rfl ?_
        exact Jn 4 2 (by unfold acd; rw [if_neg c8, if_neg c18, if_pos c28]) (Or.inr ⟨c8, c28, rfl⟩) (by decide)
    · -- X8_act 18F
      have i18 := c18
      simp (disch := omega) only [i32_lt, i32_le, i32_eq, Int32.reduceToInt, nI_toInt] at i18
      refine x_iconst (v := 0) hκ dX8_act_21 (by decide) ?_
      refine x_goto (tgt := 80) hκ dX8_act_22 (by decide) ?_
      refine x_istore_n hκ dX8_act_80 (by rw [hL]; decide) rfl ?_
      exact Jk 0 (by unfold acd; rw [if_neg c8, if_pos c18]) c8 (by rw [c18]; decide) (by decide)
  · -- X8_act 8F
    have i8 := c8
    simp (disch := omega) only [i32_lt, i32_le, i32_eq, Int32.reduceToInt, nI_toInt] at i8
    refine x_iconst (v := 0) hκ dX8_act_11 (by decide) ?_
    refine x_goto (tgt := 80) hκ dX8_act_12 (by decide) ?_
    refine x_istore_n hκ dX8_act_80 (by rw [hL]; decide) rfl ?_
    exact Jn 0 3 (by unfold acd; rw [if_pos c8]) (Or.inl ⟨c8, rfl⟩) (by decide)
