theorem wX8_230 : GoodIn lw_all (wsV RX8 230 RX8 yX8_add (ws_ yX8_add cX8_add 9 none)) := lw_V q1445 q1447 qs47 q82 q1448
theorem aX8_add : yX8_add.cls = RX8 ∧ yX8_add.cls ≠ "java/lang/invoke/MethodHandle" ∧ yX8_add.cls ≠ "java/lang/invoke/VarHandle" ∧ (parseMethodDescriptor yX8_add.desc).map (fun d => d.parameters.length) = some 8 := by decide +kernel
theorem wX8_243 : GoodIn lw_all (wsV RX8 243 RX8 yX8_toCome (ws_ yX8_toCome cX8_toCome 4 none)) := lw_V q1449 q1451 qs48 q82 q1452
theorem aX8_toCome : yX8_toCome.cls = RX8 ∧ yX8_toCome.cls ≠ "java/lang/invoke/MethodHandle" ∧ yX8_toCome.cls ≠ "java/lang/invoke/VarHandle" ∧ (parseMethodDescriptor yX8_toCome.desc).map (fun d => d.parameters.length) = some 3 := by decide +kernel
theorem wX8_250 : GoodIn lw_all (wsV RX8 250 RX8 yX8_mayAnswer (ws_ yX8_mayAnswer cX8_mayAnswer 4 (some .boolean))) := lw_V q1479 q1481 qs55 q82 q1482
theorem aX8_mayAnswer : yX8_mayAnswer.cls = RX8 ∧ yX8_mayAnswer.cls ≠ "java/lang/invoke/MethodHandle" ∧ yX8_mayAnswer.cls ≠ "java/lang/invoke/VarHandle" ∧ (parseMethodDescriptor yX8_mayAnswer.desc).map (fun d => d.parameters.length) = some 2 := by decide +kernel
theorem wX8_254 : GoodIn lw_all (wsV RX8 254 RX8 yX8_answers (ws_ yX8_answers cX8_answers 3 none)) := lw_V q1483 q1485 qs56 q82 q1486
theorem aX8_answers : yX8_answers.cls = RX8 ∧ yX8_answers.cls ≠ "java/lang/invoke/MethodHandle" ∧ yX8_answers.cls ≠ "java/lang/invoke/VarHandle" ∧ (parseMethodDescriptor yX8_answers.desc).map (fun d => d.parameters.length) = some 2 := by decide +kernel
theorem wX8_282 : GoodIn lw_all (va_wsS RX8 282 yX8_bits (ws_ yX8_bits cX8_bits 3 (some .int))) := lw_S q1426 q1427 q82 q1428
theorem aX8_bits : yX8_bits.cls ≠ "java/lang/invoke/MethodHandle" ∧ yX8_bits.cls ≠ "java/lang/invoke/VarHandle" ∧ (parseMethodDescriptor yX8_bits.desc).map (fun d => d.parameters.length) = some 1 := by decide +kernel
/-! the reference: letters that are posted -/
/-- how many of the lower n bits -/
def bsum (x : Int32) : Nat → Int32
  | 0 => 0
  | n + 1 => bsum x n + ((x >>> (nI n &&& 31)) &&& 1)
theorem mX8_bits {E : gE} {x : Int32} : SMi E yX8_bits cX8_bits 3 .int 0 [.int x] (fun r => r = bsum x 16) := by
  refine SMi.of (by decide) (Nat.le_of_ble_eq_true rfl) ?_
  rintro κ G rfl hL hκ hr
  have loop : ∀ (m i : Nat), i ≤ 16 → 16 - i < m → X κ G 0 0 4 [some (.int x), some (.int (bsum x i)), some (.int (nI i))] [] := by
    intro m
    induction m with
    | zero => intro i h1 h2; exact absurd h2 (Nat.not_lt_zero _)
    | succ m ih =>
      intro i hi hm
      refine x_iload_n hκ dX8_bits_4 rfl ?_
      refine x_bipush (v := 16) hκ dX8_bits_5 (by decide) ?_
      refine x_icmp_ge (tgt := 24) hκ dX8_bits_7 (by decide) (fun c7 => ?_) (fun c7 => ?_)
      · -- X8_bits 7T
        have i7 := c7
        simp (disch := omega) only [i32_lt, i32_le, i32_eq, Int32.reduceToInt, nI_toInt] at i7
        refine x_iload_n hκ dX8_bits_24 rfl ?_
        refine s_reti hκ hr dX8_bits_25 ?_
        obtain rfl : i = 16 := by omega
        rfl
      · -- X8_bits 7F
        have i7 := c7
        simp (disch := omega) only [i32_lt, i32_le, i32_eq, Int32.reduceToInt, nI_toInt] at i7
        refine x_iload_n hκ dX8_bits_10 rfl ?_
        refine x_iload_n hκ dX8_bits_11 rfl ?_
        refine x_iload_n hκ dX8_bits_12 rfl ?_
        refine x_ishr hκ dX8_bits_13 ?_
        refine x_iconst (v := 1) hκ dX8_bits_14 (by decide) ?_
        refine x_iand hκ dX8_bits_15 ?_
        refine x_iaddN hκ (by (try simp (disch := omega) only [tS_1, tS_2, tA_1, tA_2, tF_1, tF_2, xl_0, xl_1, xl_2, Nat.reduceEqDiff, ↓reduceIte, nI_add, nI_1, nm_2, nm_3, nm_4, nm_6, nm_7, nm_8, nm_12, nm_16, nm_24, nm_40, nm_180, nm_300, nm_10210, na_0, na_2, na_3, na_4, na_5, na_6, na_7, na_8, nm_p, nm_m, nI_clamp]); exact rfl) dX8_bits_16 ?_
        refine x_istore_n hκ dX8_bits_17 (by rw [hL]; decide) rfl ?_
        refine x_iincN (y := 1) hκ dX8_bits_18 (by decide) rfl (by rw [hL]; decide) rfl (by (try simp (disch := omega) only [tS_1, tS_2, tA_1, tA_2, tF_1, tF_2, xl_0, xl_1, xl_2, Nat.reduceEqDiff, ↓reduceIte, nI_add, nI_1, nm_2, nm_3, nm_4, nm_6, nm_7, nm_8, nm_12, nm_16, nm_24, nm_40, nm_180, nm_300, nm_10210, na_0, na_2, na_3, na_4, na_5, na_6, na_7, na_8, nm_p, nm_m, nI_clamp]); exact rfl) ?_
        refine x_goto (tgt := 4) hκ dX8_bits_21 (by decide) ?_
        exact ih (i + 1) (by omega) (by omega)
  refine x_iconst (v := 0) hκ dX8_bits_0 (by decide) ?_
  refine x_istore_n hκ dX8_bits_1 (by rw [hL]; decide) rfl ?_
  refine x_iconst (v := 0) hκ dX8_bits_2 (by decide) ?_
  refine x_istore_n hκ dX8_bits_3 (by rw [hL]; decide) rfl ?_
  exact loop 17 0 (by omega) (by omega)
/-- a letter is good -/
abbrev goodL (f t w s g i r d : Int32) : Prop := ((0 ≤ f.toInt ∧ f.toInt ≤ 15) ∧ (0 ≤ t.toInt ∧ t.toInt ≤ 65535) ∧ (0 ≤ w.toInt ∧ w.toInt ≤ 4095) ∧ (bsum w 16).toInt < 5) ∧ (0 ≤ s.toInt ∧ s.toInt ≤ 60000) ∧ (0 ≤ g.toInt ∧ g.toInt ≤ 3) ∧ (0 ≤ i.toInt ∧ i.toInt ≤ 9999) ∧ (-1 ≤ r.toInt ∧ r.toInt ≤ 9999) ∧ 0 ≤ d.toInt ∧ d.toInt ≤ 9999
theorem mX8_isGood {E : gE} {f t w s g i r d : Int32} : SMi E yX8_isGood cX8_isGood 9 .boolean 1 [.int f, .int t, .int w, .int s, .int g, .int i, .int r, .int d] (Tz (goodL f t w s g i r d)) := by
  refine SMi.of (by decide) (Nat.le_of_ble_eq_true rfl) ?_
  rintro κ G rfl hL hκ hr
  have J : ∀ z : Int32, Tz ((0 ≤ f.toInt ∧ f.toInt ≤ 15) ∧ (0 ≤ t.toInt ∧ t.toInt ≤ 65535) ∧ (0 ≤ w.toInt ∧ w.toInt ≤ 4095) ∧ (bsum w 16).toInt < 5) z → X κ G 0 0 47 [some (.int f), some (.int t), some (.int w), some (.int s), some (.int g), some (.int i), some (.int r), some (.int d), some (.int z)] [] := by
    intro z hz
    refine x_iload hκ dX8_isGood_47 rfl ?_
    refine x_if_eq (tgt := 112) hκ dX8_isGood_49 (by decide) (fun c49 => ?_) (fun c49 => ?_)
    · -- X8_isGood 49T
      have i49 := c49
      simp (disch := omega) only [i32_lt, i32_le, i32_eq, Int32.reduceToInt, nI_toInt] at i49
      refine x_iconst (v := 0) hκ dX8_isGood_112 (by decide) ?_
      refine s_retz hκ hr dX8_isGood_113 ?_ ?_
      · first | exact Or.inl rfl | exact Or.inr rfl | assumption
      exact Tz0 (fun q => hz.f c49 q.1)
    · -- X8_isGood 49F
      have i49 := c49
      simp (disch := omega) only [i32_lt, i32_le, i32_eq, Int32.reduceToInt, nI_toInt] at i49
      refine x_iload_n hκ dX8_isGood_52 rfl ?_
      refine x_iconst (v := 0) hκ dX8_isGood_53 (by decide) ?_
      refine x_ldc hκ q1386 dX8_isGood_54 ?_
      refine x_callSi hκ mX8_in (by omega) (by decide) wX8_122 aX8_in rfl (Nat.le_of_ble_eq_true rfl) dX8_isGood_56 (fun r56 h56 => ?_)
      refine x_if_eq (tgt := 112) hκ dX8_isGood_59 (by decide) (fun c59 => ?_) (fun c59 => ?_)
      · -- X8_isGood 59T
        have i59 := h56.f c59
        try simp only [Int32.reduceToInt] at i59
        refine x_iconst (v := 0) hκ dX8_isGood_112 (by decide) ?_
        refine s_retz hκ hr dX8_isGood_113 ?_ ?_
        · first | exact Or.inl rfl | exact Or.inr rfl | assumption
        exact Tz0 (fun q => by have := q.2; omega)
      · -- X8_isGood 59F
        have i59 := h56.t c59
        try simp only [Int32.reduceToInt] at i59
        refine x_iload hκ dX8_isGood_62 rfl ?_
        refine x_iconst (v := 0) hκ dX8_isGood_64 (by decide) ?_
        refine x_iconst (v := 3) hκ dX8_isGood_65 (by decide) ?_
        refine x_callSi hκ mX8_in (by omega) (by decide) wX8_122 aX8_in rfl (Nat.le_of_ble_eq_true rfl) dX8_isGood_66 (fun r66 h66 => ?_)
        refine x_if_eq (tgt := 112) hκ dX8_isGood_69 (by decide) (fun c69 => ?_) (fun c69 => ?_)
        · -- X8_isGood 69T
          have i69 := h66.f c69
          try simp only [Int32.reduceToInt] at i69
          refine x_iconst (v := 0) hκ dX8_isGood_112 (by decide) ?_
          refine s_retz hκ hr dX8_isGood_113 ?_ ?_
          · first | exact Or.inl rfl | exact Or.inr rfl | assumption
          exact Tz0 (fun q => by have := q.2; omega)
        · -- X8_isGood 69F
          have i69 := h66.t c69
          try simp only [Int32.reduceToInt] at i69
          refine x_iload hκ dX8_isGood_72 rfl ?_
          refine x_iconst (v := 0) hκ dX8_isGood_74 (by decide) ?_
          refine x_sipush (v := 9999) hκ dX8_isGood_75 (by decide) ?_
          refine x_callSi hκ mX8_in (by omega) (by decide) wX8_122 aX8_in rfl (Nat.le_of_ble_eq_true rfl) dX8_isGood_78 (fun r78 h78 => ?_)
          refine x_if_eq (tgt := 112) hκ dX8_isGood_81 (by decide) (fun c81 => ?_) (fun c81 => ?_)
          · -- X8_isGood 81T
            have i81 := h78.f c81
            try simp only [Int32.reduceToInt] at i81
            refine x_iconst (v := 0) hκ dX8_isGood_112 (by decide) ?_
            refine s_retz hκ hr dX8_isGood_113 ?_ ?_
            · first | exact Or.inl rfl | exact Or.inr rfl | assumption
            exact Tz0 (fun q => by have := q.2; omega)
          · -- X8_isGood 81F
            have i81 := h78.t c81
            try simp only [Int32.reduceToInt] at i81
            refine x_iload hκ dX8_isGood_84 rfl ?_
            refine x_iconst (v := (-1)) hκ dX8_isGood_86 (by decide) ?_
            refine x_sipush (v := 9999) hκ dX8_isGood_87 (by decide) ?_
            refine x_callSi hκ mX8_in (by omega) (by decide) wX8_122 aX8_in rfl (Nat.le_of_ble_eq_true rfl) dX8_isGood_90 (fun r90 h90 => ?_)
            refine x_if_eq (tgt := 112) hκ dX8_isGood_93 (by decide) (fun c93 => ?_) (fun c93 => ?_)
            · -- X8_isGood 93T
              have i93 := h90.f c93
              try simp only [Int32.reduceToInt] at i93
              refine x_iconst (v := 0) hκ dX8_isGood_112 (by decide) ?_
              refine s_retz hκ hr dX8_isGood_113 ?_ ?_
              · first | exact Or.inl rfl | exact Or.inr rfl | assumption
              exact Tz0 (fun q => by have := q.2; omega)
            · -- X8_isGood 93F
              have i93 := h90.t c93
              try simp only [Int32.reduceToInt] at i93
              refine x_iload hκ dX8_isGood_96 rfl ?_
              refine x_iconst (v := 0) hκ dX8_isGood_98 (by decide) ?_
              refine x_sipush (v := 9999) hκ dX8_isGood_99 (by decide) ?_
              refine x_callSi hκ mX8_in (by omega) (by decide) wX8_122 aX8_in rfl (Nat.le_of_ble_eq_true rfl) dX8_isGood_102 (fun r102 h102 => ?_)
              refine x_if_eq (tgt := 112) hκ dX8_isGood_105 (by decide) (fun c105 => ?_) (fun c105 => ?_)
              · -- X8_isGood 105T
                have i105 := h102.f c105
                try simp only [Int32.reduceToInt] at i105
                refine x_iconst (v := 0) hκ dX8_isGood_112 (by decide) ?_
                refine s_retz hκ hr dX8_isGood_113 ?_ ?_
                · first | exact Or.inl rfl | exact Or.inr rfl | assumption
                exact Tz0 (fun q => by have := q.2; omega)
              · -- X8_isGood 105F
                have i105 := h102.t c105
                try simp only [Int32.reduceToInt] at i105
                refine x_iconst (v := 1) hκ dX8_isGood_108 (by decide) ?_
                refine x_goto (tgt := 113) hκ dX8_isGood_109 (by decide) ?_
                refine s_retz hκ hr dX8_isGood_113 ?_ ?_
                · first | exact Or.inl rfl | exact Or.inr rfl | assumption
                exact Tz1 ⟨hz.t c49, by omega⟩
  refine x_iload_n hκ dX8_isGood_0 rfl ?_
  refine x_iconst (v := 0) hκ dX8_isGood_1 (by decide) ?_
  refine x_bipush (v := 15) hκ dX8_isGood_2 (by decide) ?_
  refine x_callSi hκ mX8_in (by omega) (by decide) wX8_122 aX8_in rfl (Nat.le_of_ble_eq_true rfl) dX8_isGood_4 (fun r4 h4 => ?_)
  refine x_if_eq (tgt := 44) hκ dX8_isGood_7 (by decide) (fun c7 => ?_) (fun c7 => ?_)
  · -- X8_isGood 7T
    have i7 := h4.f c7
    try simp only [Int32.reduceToInt] at i7
    refine x_iconst (v := 0) hκ dX8_isGood_44 (by decide) ?_
    refine x_istore hκ dX8_isGood_45 (by rw [hL]; decide) rfl ?_
    exact J 0 (Tz0 (by omega))
  · -- X8_isGood 7F
    have i7 := h4.t c7
    try simp only [Int32.reduceToInt] at i7
    refine x_iload_n hκ dX8_isGood_10 rfl ?_
    refine x_iconst (v := 0) hκ dX8_isGood_11 (by decide) ?_
    refine x_ldcw hκ q1425 dX8_isGood_12 ?_
    refine x_callSi hκ mX8_in (by omega) (by decide) wX8_122 aX8_in rfl (Nat.le_of_ble_eq_true rfl) dX8_isGood_15 (fun r15 h15 => ?_)
    refine x_if_eq (tgt := 44) hκ dX8_isGood_18 (by decide) (fun c18 => ?_) (fun c18 => ?_)
    · -- X8_isGood 18T
      have i18 := h15.f c18
      try simp only [Int32.reduceToInt] at i18
      refine x_iconst (v := 0) hκ dX8_isGood_44 (by decide) ?_
      refine x_istore hκ dX8_isGood_45 (by rw [hL]; decide) rfl ?_
      exact J 0 (Tz0 (by omega))
    · -- X8_isGood 18F
      have i18 := h15.t c18
      try simp only [Int32.reduceToInt] at i18
      refine x_iload_n hκ dX8_isGood_21 rfl ?_
      refine x_iconst (v := 0) hκ dX8_isGood_22 (by decide) ?_
      refine x_sipush (v := 4095) hκ dX8_isGood_23 (by decide) ?_
      refine x_callSi hκ mX8_in (by omega) (by decide) wX8_122 aX8_in rfl (Nat.le_of_ble_eq_true rfl) dX8_isGood_26 (fun r26 h26 => ?_)
      refine x_if_eq (tgt := 44) hκ dX8_isGood_29 (by decide) (fun c29 => ?_) (fun c29 => ?_)
      · -- X8_isGood 29T
        have i29 := h26.f c29
        try simp only [Int32.reduceToInt] at i29
        refine x_iconst (v := 0) hκ dX8_isGood_44 (by decide) ?_
        refine x_istore hκ dX8_isGood_45 (by rw [hL]; decide) rfl ?_
        exact J 0 (Tz0 (by omega))
      · -- X8_isGood 29F
        have i29 := h26.t c29
        try simp only [Int32.reduceToInt] at i29
        refine x_iload_n hκ dX8_isGood_32 rfl ?_
        refine x_callSi hκ mX8_bits (by omega) (by decide) wX8_282 aX8_bits rfl (Nat.le_of_ble_eq_true rfl) dX8_isGood_33 (fun r33 h33 => ?_)
        subst h33
        refine x_iconst (v := 5) hκ dX8_isGood_36 (by decide) ?_
        refine x_icmp_ge (tgt := 44) hκ dX8_isGood_37 (by decide) (fun c37 => ?_) (fun c37 => ?_)
        · -- X8_isGood 37T
          have i37 := c37
          simp (disch := omega) only [i32_lt, i32_le, i32_eq, Int32.reduceToInt, nI_toInt] at i37
          refine x_iconst (v := 0) hκ dX8_isGood_44 (by decide) ?_
          refine x_istore hκ dX8_isGood_45 (by rw [hL]; decide) rfl ?_
          exact J 0 (Tz0 (by omega))
        · -- X8_isGood 37F
          have i37 := c37
          simp (disch := omega) only [i32_lt, i32_le, i32_eq, Int32.reduceToInt, nI_toInt] at i37
          refine x_iconst (v := 1) hκ dX8_isGood_40 (by decide) ?_
          refine x_goto (tgt := 45) hκ dX8_isGood_41 (by decide) ?_
          refine x_istore hκ dX8_isGood_45 (by rw [hL]; decide) rfl ?_
          exact J 1 (Tz1 (by omega))
def addS (σ : TS) (n : Nat) (f t w s g i r d : Int32) : TS := tS (tA (tA (tA (tA (tA (tA (tA (tA σ 26 n f) 27 n t) 28 n w) 29 n s) 30 n g) 31 n i) 32 n r) 33 n d) 25 (nI (n + 1))
theorem mX8_add {E : gE} {θ : TA} (hθ : tOk θ) {σ : TS} {n : Nat} (hn : σ.1 25 = nI n) (h : n < 210) {f t w s g i r d : Int32} : TMv E θ σ yX8_add cX8_add 9 0 [.int f, .int t, .int w, .int s, .int g, .int i, .int r, .int d] (fun σ' => σ' = addS σ n f t w s g i r d) := by
  refine TMv.of (by decide) (Nat.le_of_ble_eq_true rfl) ?_
  rintro κ rfl hL hκ hr
  refine x_aload_n hκ dX8_add_0 rfl ?_
  refine t_getA hκ fl8_26 (by decide) (by decide) rfl dX8_add_1 ?_
  refine x_aload_n hκ dX8_add_4 rfl ?_
  refine t_get hκ fl8_25 (by decide) (by decide) rfl (by (try simp (disch := omega) only [tS_1, tS_2, tA_1, tA_2, tF_1, tF_2, xl_0, xl_1, xl_2, Nat.reduceEqDiff, ↓reduceIte, nI_add, nI_1, nm_2, nm_3, nm_4, nm_6, nm_7, nm_8, nm_12, nm_16, nm_24, nm_40, nm_180, nm_300, nm_10210, na_0, na_2, na_3, na_4, na_5, na_6, na_7, na_8, nm_p, nm_m, nI_clamp, hn]); exact rfl) dX8_add_5 ?_
  refine x_iload_n hκ dX8_add_8 rfl ?_
  refine t_iast (n := 210) hκ hθ (by decide) rfl rfl (by first | ((with_reducible refine vp_in_nI ?_ ?_) <;> omega) | exact i32_in (by omega) (by omega) | exact i32_in' (by simp only [Int32.toInt_add, Int32.toInt_mul, Int32.toInt_sub, Int32.reduceToInt, Int.bmod_add_bmod, Int.bmod_sub_bmod, Int.add_bmod_bmod, Int.sub_bmod_bmod, Int.bmod_mul_bmod, Int.mul_bmod_bmod]; exact i32_bm (by omega) (by omega)) (by omega) (by omega) | exact i32_in (by decide) (by decide)) (by (try simp (disch := omega) only [tS_1, tS_2, tA_1, tA_2, tF_1, tF_2, xl_0, xl_1, xl_2, Nat.reduceEqDiff, ↓reduceIte, nI_add, nI_1, nm_2, nm_3, nm_4, nm_6, nm_7, nm_8, nm_12, nm_16, nm_24, nm_40, nm_180, nm_300, nm_10210, na_0, na_2, na_3, na_4, na_5, na_6, na_7, na_8, nm_p, nm_m, nI_clamp, hn]); exact rfl) dX8_add_9 ?_
  refine x_aload_n hκ dX8_add_10 rfl ?_
  refine t_getA hκ fl8_27 (by decide) (by decide) rfl dX8_add_11 ?_
  refine x_aload_n hκ dX8_add_14 rfl ?_
  refine t_get hκ fl8_25 (by decide) (by decide) rfl (by (try simp (disch := omega) only [tS_1, tS_2, tA_1, tA_2, tF_1, tF_2, xl_0, xl_1, xl_2, Nat.reduceEqDiff, ↓reduceIte, nI_add, nI_1, nm_2, nm_3, nm_4, nm_6, nm_7, nm_8, nm_12, nm_16, nm_24, nm_40, nm_180, nm_300, nm_10210, na_0, na_2, na_3, na_4, na_5, na_6, na_7, na_8, nm_p, nm_m, nI_clamp, hn]); exact rfl) dX8_add_15 ?_
  refine x_iload_n hκ dX8_add_18 rfl ?_
  refine t_iast (n := 210) hκ hθ (by decide) rfl rfl (by first | ((with_reducible refine vp_in_nI ?_ ?_) <;> omega) | exact i32_in (by omega) (by omega) | exact i32_in' (by simp only [Int32.toInt_add, Int32.toInt_mul, Int32.toInt_sub, Int32.reduceToInt, Int.bmod_add_bmod, Int.bmod_sub_bmod, Int.add_bmod_bmod, Int.sub_bmod_bmod, Int.bmod_mul_bmod, Int.mul_bmod_bmod]; exact i32_bm (by omega) (by omega)) (by omega) (by omega) | exact i32_in (by decide) (by decide)) (by (try simp (disch := omega) only [tS_1, tS_2, tA_1, tA_2, tF_1, tF_2, xl_0, xl_1, xl_2, Nat.reduceEqDiff, ↓reduceIte, nI_add, nI_1, nm_2, nm_3, nm_4, nm_6, nm_7, nm_8, nm_12, nm_16, nm_24, nm_40, nm_180, nm_300, nm_10210, na_0, na_2, na_3, na_4, na_5, na_6, na_7, na_8, nm_p, nm_m, nI_clamp, hn]); exact rfl) dX8_add_19 ?_
  refine x_aload_n hκ dX8_add_20 rfl ?_
  refine t_getA hκ fl8_28 (by decide) (by decide) rfl dX8_add_21 ?_
  refine x_aload_n hκ dX8_add_24 rfl ?_
  refine t_get hκ fl8_25 (by decide) (by decide) rfl (by (try simp (disch := omega) only [tS_1, tS_2, tA_1, tA_2, tF_1, tF_2, xl_0, xl_1, xl_2, Nat.reduceEqDiff, ↓reduceIte, nI_add, nI_1, nm_2, nm_3, nm_4, nm_6, nm_7, nm_8, nm_12, nm_16, nm_24, nm_40, nm_180, nm_300, nm_10210, na_0, na_2, na_3, na_4, na_5, na_6, na_7, na_8, nm_p, nm_m, nI_clamp, hn]); exact rfl) dX8_add_25 ?_
  refine x_iload_n hκ dX8_add_28 rfl ?_
  refine t_iast (n := 210) hκ hθ (by decide) rfl rfl (by first | ((with_reducible refine vp_in_nI ?_ ?_) <;> omega) | exact i32_in (by omega) (by omega) | exact i32_in' (by simp only [Int32.toInt_add, Int32.toInt_mul, Int32.toInt_sub, Int32.reduceToInt, Int.bmod_add_bmod, Int.bmod_sub_bmod, Int.add_bmod_bmod, Int.sub_bmod_bmod, Int.bmod_mul_bmod, Int.mul_bmod_bmod]; exact i32_bm (by omega) (by omega)) (by omega) (by omega) | exact i32_in (by decide) (by decide)) (by (try simp (disch := omega) only [tS_1, tS_2, tA_1, tA_2, tF_1, tF_2, xl_0, xl_1, xl_2, Nat.reduceEqDiff, ↓reduceIte, nI_add, nI_1, nm_2, nm_3, nm_4, nm_6, nm_7, nm_8, nm_12, nm_16, nm_24, nm_40, nm_180, nm_300, nm_10210, na_0, na_2, na_3, na_4, na_5, na_6, na_7, na_8, nm_p, nm_m, nI_clamp, hn]); exact rfl) dX8_add_29 ?_
  refine x_aload_n hκ dX8_add_30 rfl ?_
  refine t_getA hκ fl8_29 (by decide) (by decide) rfl dX8_add_31 ?_
  refine x_aload_n hκ dX8_add_34 rfl ?_
  refine t_get hκ fl8_25 (by decide) (by decide) rfl (by (try simp (disch := omega) only [tS_1, tS_2, tA_1, tA_2, tF_1, tF_2, xl_0, xl_1, xl_2, Nat.reduceEqDiff, ↓reduceIte, nI_add, nI_1, nm_2, nm_3, nm_4, nm_6, nm_7, nm_8, nm_12, nm_16, nm_24, nm_40, nm_180, nm_300, nm_10210, na_0, na_2, na_3, na_4, na_5, na_6, na_7, na_8, nm_p, nm_m, nI_clamp, hn]); exact rfl) dX8_add_35 ?_
  refine x_iload hκ dX8_add_38 rfl ?_
  refine t_iast (n := 210) hκ hθ (by decide) rfl rfl (by first | ((with_reducible refine vp_in_nI ?_ ?_) <;> omega) | exact i32_in (by omega) (by omega) | exact i32_in' (by simp only [Int32.toInt_add, Int32.toInt_mul, Int32.toInt_sub, Int32.reduceToInt, Int.bmod_add_bmod, Int.bmod_sub_bmod, Int.add_bmod_bmod, Int.sub_bmod_bmod, Int.bmod_mul_bmod, Int.mul_bmod_bmod]; exact i32_bm (by omega) (by omega)) (by omega) (by omega) | exact i32_in (by decide) (by decide)) (by (try simp (disch := omega) only [tS_1, tS_2, tA_1, tA_2, tF_1, tF_2, xl_0, xl_1, xl_2, Nat.reduceEqDiff, ↓reduceIte, nI_add, nI_1, nm_2, nm_3, nm_4, nm_6, nm_7, nm_8, nm_12, nm_16, nm_24, nm_40, nm_180, nm_300, nm_10210, na_0, na_2, na_3, na_4, na_5, na_6, na_7, na_8, nm_p, nm_m, nI_clamp, hn]); exact rfl) dX8_add_40 ?_
  refine x_aload_n hκ dX8_add_41 rfl ?_
  refine t_getA hκ fl8_30 (by decide) (by decide) rfl dX8_add_42 ?_
  refine x_aload_n hκ dX8_add_45 rfl ?_
  refine t_get hκ fl8_25 (by decide) (by decide) rfl (by (try simp (disch := omega) only [tS_1, tS_2, tA_1, tA_2, tF_1, tF_2, xl_0, xl_1, xl_2, Nat.reduceEqDiff, ↓reduceIte, nI_add, nI_1, nm_2, nm_3, nm_4, nm_6, nm_7, nm_8, nm_12, nm_16, nm_24, nm_40, nm_180, nm_300, nm_10210, na_0, na_2, na_3, na_4, na_5, na_6, na_7, na_8, nm_p, nm_m, nI_clamp, hn]); exact rfl) dX8_add_46 ?_
  refine x_iload hκ dX8_add_49 rfl ?_
  refine t_iast (n := 210) hκ hθ (by decide) rfl rfl (by first | ((with_reducible refine vp_in_nI ?_ ?_) <;> omega) | exact i32_in (by omega) (by omega) | exact i32_in' (by simp only [Int32.toInt_add, Int32.toInt_mul, Int32.toInt_sub, Int32.reduceToInt, Int.bmod_add_bmod, Int.bmod_sub_bmod, Int.add_bmod_bmod, Int.sub_bmod_bmod, Int.bmod_mul_bmod, Int.mul_bmod_bmod]; exact i32_bm (by omega) (by omega)) (by omega) (by omega) | exact i32_in (by decide) (by decide)) (by (try simp (disch := omega) only [tS_1, tS_2, tA_1, tA_2, tF_1, tF_2, xl_0, xl_1, xl_2, Nat.reduceEqDiff, ↓reduceIte, nI_add, nI_1, nm_2, nm_3, nm_4, nm_6, nm_7, nm_8, nm_12, nm_16, nm_24, nm_40, nm_180, nm_300, nm_10210, na_0, na_2, na_3, na_4, na_5, na_6, na_7, na_8, nm_p, nm_m, nI_clamp, hn]); exact rfl) dX8_add_51 ?_
  refine x_aload_n hκ dX8_add_52 rfl ?_
  refine t_getA hκ fl8_31 (by decide) (by decide) rfl dX8_add_53 ?_
  refine x_aload_n hκ dX8_add_56 rfl ?_
  refine t_get hκ fl8_25 (by decide) (by decide) rfl (by (try simp (disch := omega) only [tS_1, tS_2, tA_1, tA_2, tF_1, tF_2, xl_0, xl_1, xl_2, Nat.reduceEqDiff, ↓reduceIte, nI_add, nI_1, nm_2, nm_3, nm_4, nm_6, nm_7, nm_8, nm_12, nm_16, nm_24, nm_40, nm_180, nm_300, nm_10210, na_0, na_2, na_3, na_4, na_5, na_6, na_7, na_8, nm_p, nm_m, nI_clamp, hn]); exact rfl) dX8_add_57 ?_
  refine x_iload hκ dX8_add_60 rfl ?_
  refine t_iast (n := 210) hκ hθ (by decide) rfl rfl (by first | ((with_reducible refine vp_in_nI ?_ ?_) <;> omega) | exact i32_in (by omega) (by omega) | exact i32_in' (by simp only [Int32.toInt_add, Int32.toInt_mul, Int32.toInt_sub, Int32.reduceToInt, Int.bmod_add_bmod, Int.bmod_sub_bmod, Int.add_bmod_bmod, Int.sub_bmod_bmod, Int.bmod_mul_bmod, Int.mul_bmod_bmod]; exact i32_bm (by omega) (by omega)) (by omega) (by omega) | exact i32_in (by decide) (by decide)) (by (try simp (disch := omega) only [tS_1, tS_2, tA_1, tA_2, tF_1, tF_2, xl_0, xl_1, xl_2, Nat.reduceEqDiff, ↓reduceIte, nI_add, nI_1, nm_2, nm_3, nm_4, nm_6, nm_7, nm_8, nm_12, nm_16, nm_24, nm_40, nm_180, nm_300, nm_10210, na_0, na_2, na_3, na_4, na_5, na_6, na_7, na_8, nm_p, nm_m, nI_clamp, hn]); exact rfl) dX8_add_62 ?_
  refine x_aload_n hκ dX8_add_63 rfl ?_
  refine t_getA hκ fl8_32 (by decide) (by decide) rfl dX8_add_64 ?_
  refine x_aload_n hκ dX8_add_67 rfl ?_
  refine t_get hκ fl8_25 (by decide) (by decide) rfl (by (try simp (disch := omega) only [tS_1, tS_2, tA_1, tA_2, tF_1, tF_2, xl_0, xl_1, xl_2, Nat.reduceEqDiff, ↓reduceIte, nI_add, nI_1, nm_2, nm_3, nm_4, nm_6, nm_7, nm_8, nm_12, nm_16, nm_24, nm_40, nm_180, nm_300, nm_10210, na_0, na_2, na_3, na_4, na_5, na_6, na_7, na_8, nm_p, nm_m, nI_clamp, hn]); exact rfl) dX8_add_68 ?_
  refine x_iload hκ dX8_add_71 rfl ?_
  refine t_iast (n := 210) hκ hθ (by decide) rfl rfl (by first | ((with_reducible refine vp_in_nI ?_ ?_) <;> omega) | exact i32_in (by omega) (by omega) | exact i32_in' (by simp only [Int32.toInt_add, Int32.toInt_mul, Int32.toInt_sub, Int32.reduceToInt, Int.bmod_add_bmod, Int.bmod_sub_bmod, Int.add_bmod_bmod, Int.sub_bmod_bmod, Int.bmod_mul_bmod, Int.mul_bmod_bmod]; exact i32_bm (by omega) (by omega)) (by omega) (by omega) | exact i32_in (by decide) (by decide)) (by (try simp (disch := omega) only [tS_1, tS_2, tA_1, tA_2, tF_1, tF_2, xl_0, xl_1, xl_2, Nat.reduceEqDiff, ↓reduceIte, nI_add, nI_1, nm_2, nm_3, nm_4, nm_6, nm_7, nm_8, nm_12, nm_16, nm_24, nm_40, nm_180, nm_300, nm_10210, na_0, na_2, na_3, na_4, na_5, na_6, na_7, na_8, nm_p, nm_m, nI_clamp, hn]); exact rfl) dX8_add_73 ?_
  refine x_aload_n hκ dX8_add_74 rfl ?_
  refine t_getA hκ fl8_33 (by decide) (by decide) rfl dX8_add_75 ?_
  refine x_aload_n hκ dX8_add_78 rfl ?_
  refine t_get hκ fl8_25 (by decide) (by decide) rfl (by (try simp (disch := omega) only [tS_1, tS_2, tA_1, tA_2, tF_1, tF_2, xl_0, xl_1, xl_2, Nat.reduceEqDiff, ↓reduceIte, nI_add, nI_1, nm_2, nm_3, nm_4, nm_6, nm_7, nm_8, nm_12, nm_16, nm_24, nm_40, nm_180, nm_300, nm_10210, na_0, na_2, na_3, na_4, na_5, na_6, na_7, na_8, nm_p, nm_m, nI_clamp, hn]); exact rfl) dX8_add_79 ?_
  refine x_iload hκ dX8_add_82 rfl ?_
  refine t_iast (n := 210) hκ hθ (by decide) rfl rfl (by first | ((with_reducible refine vp_in_nI ?_ ?_) <;> omega) | exact i32_in (by omega) (by omega) | exact i32_in' (by simp only [Int32.toInt_add, Int32.toInt_mul, Int32.toInt_sub, Int32.reduceToInt, Int.bmod_add_bmod, Int.bmod_sub_bmod, Int.add_bmod_bmod, Int.sub_bmod_bmod, Int.bmod_mul_bmod, Int.mul_bmod_bmod]; exact i32_bm (by omega) (by omega)) (by omega) (by omega) | exact i32_in (by decide) (by decide)) (by (try simp (disch := omega) only [tS_1, tS_2, tA_1, tA_2, tF_1, tF_2, xl_0, xl_1, xl_2, Nat.reduceEqDiff, ↓reduceIte, nI_add, nI_1, nm_2, nm_3, nm_4, nm_6, nm_7, nm_8, nm_12, nm_16, nm_24, nm_40, nm_180, nm_300, nm_10210, na_0, na_2, na_3, na_4, na_5, na_6, na_7, na_8, nm_p, nm_m, nI_clamp, hn]); exact rfl) dX8_add_84 ?_
  refine x_aload_n hκ dX8_add_85 rfl ?_
  refine x_dup hκ dX8_add_86 rfl ?_
  refine t_get hκ fl8_25 (by decide) (by decide) rfl (by (try simp (disch := omega) only [tS_1, tS_2, tA_1, tA_2, tF_1, tF_2, xl_0, xl_1, xl_2, Nat.reduceEqDiff, ↓reduceIte, nI_add, nI_1, nm_2, nm_3, nm_4, nm_6, nm_7, nm_8, nm_12, nm_16, nm_24, nm_40, nm_180, nm_300, nm_10210, na_0, na_2, na_3, na_4, na_5, na_6, na_7, na_8, nm_p, nm_m, nI_clamp, hn]); exact rfl) dX8_add_87 ?_
  refine x_iconst (v := 1) hκ dX8_add_90 (by decide) ?_
  refine x_iaddN hκ (by (try simp (disch := omega) only [tS_1, tS_2, tA_1, tA_2, tF_1, tF_2, xl_0, xl_1, xl_2, Nat.reduceEqDiff, ↓reduceIte, nI_add, nI_1, nm_2, nm_3, nm_4, nm_6, nm_7, nm_8, nm_12, nm_16, nm_24, nm_40, nm_180, nm_300, nm_10210, na_0, na_2, na_3, na_4, na_5, na_6, na_7, na_8, nm_p, nm_m, nI_clamp, hn]); exact rfl) dX8_add_91 ?_
  refine t_put hκ fl8_25 (by decide) (by decide) rfl rfl rfl dX8_add_92 ?_
  refine t_retv hκ hr dX8_add_95 ?_
  rfl
def toComeS (σ : TS) (n : Nat) (l b t : Int32) : TS := tS (tA (tA (tA σ 45 n l) 46 n b) 47 n t) 48 (nI (n + 1))
theorem mX8_toCome {E : gE} {θ : TA} (hθ : tOk θ) {σ : TS} {n : Nat} (hn : σ.1 48 = nI n) (h : n < 64) {l b t : Int32} : TMv E θ σ yX8_toCome cX8_toCome 4 0 [.int l, .int b, .int t] (fun σ' => σ' = toComeS σ n l b t) := by
  refine TMv.of (by decide) (Nat.le_of_ble_eq_true rfl) ?_
  rintro κ rfl hL hκ hr
  refine x_aload_n hκ dX8_toCome_0 rfl ?_
  refine t_getA hκ fl8_45 (by decide) (by decide) rfl dX8_toCome_1 ?_
  refine x_aload_n hκ dX8_toCome_4 rfl ?_
  refine t_get hκ fl8_48 (by decide) (by decide) rfl (by (try simp (disch := omega) only [tS_1, tS_2, tA_1, tA_2, tF_1, tF_2, xl_0, xl_1, xl_2, Nat.reduceEqDiff, ↓reduceIte, nI_add, nI_1, nm_2, nm_3, nm_4, nm_6, nm_7, nm_8, nm_12, nm_16, nm_24, nm_40, nm_180, nm_300, nm_10210, na_0, na_2, na_3, na_4, na_5, na_6, na_7, na_8, nm_p, nm_m, nI_clamp, hn]); exact rfl) dX8_toCome_5 ?_
  refine x_iload_n hκ dX8_toCome_8 rfl ?_
  refine t_iast (n := 64) hκ hθ (by decide) rfl rfl (by first | ((with_reducible refine vp_in_nI ?_ ?_) <;> omega) | exact i32_in (by omega) (by omega) | exact i32_in' (by simp only [Int32.toInt_add, Int32.toInt_mul, Int32.toInt_sub, Int32.reduceToInt, Int.bmod_add_bmod, Int.bmod_sub_bmod, Int.add_bmod_bmod, Int.sub_bmod_bmod, Int.bmod_mul_bmod, Int.mul_bmod_bmod]; exact i32_bm (by omega) (by omega)) (by omega) (by omega) | exact i32_in (by decide) (by decide)) (by (try simp (disch := omega) only [tS_1, tS_2, tA_1, tA_2, tF_1, tF_2, xl_0, xl_1, xl_2, Nat.reduceEqDiff, ↓reduceIte, nI_add, nI_1, nm_2, nm_3, nm_4, nm_6, nm_7, nm_8, nm_12, nm_16, nm_24, nm_40, nm_180, nm_300, nm_10210, na_0, na_2, na_3, na_4, na_5, na_6, na_7, na_8, nm_p, nm_m, nI_clamp, hn]); exact rfl) dX8_toCome_9 ?_
  refine x_aload_n hκ dX8_toCome_10 rfl ?_
  refine t_getA hκ fl8_46 (by decide) (by decide) rfl dX8_toCome_11 ?_
  refine x_aload_n hκ dX8_toCome_14 rfl ?_
  refine t_get hκ fl8_48 (by decide) (by decide) rfl (by (try simp (disch := omega) only [tS_1, tS_2, tA_1, tA_2, tF_1, tF_2, xl_0, xl_1, xl_2, Nat.reduceEqDiff, ↓reduceIte, nI_add, nI_1, nm_2, nm_3, nm_4, nm_6, nm_7, nm_8, nm_12, nm_16, nm_24, nm_40, nm_180, nm_300, nm_10210, na_0, na_2, na_3, na_4, na_5, na_6, na_7, na_8, nm_p, nm_m, nI_clamp, hn]); exact rfl) dX8_toCome_15 ?_
  refine x_iload_n hκ dX8_toCome_18 rfl ?_
  refine t_iast (n := 64) hκ hθ (by decide) rfl rfl (by first | ((with_reducible refine vp_in_nI ?_ ?_) <;> omega) | exact i32_in (by omega) (by omega) | exact i32_in' (by simp only [Int32.toInt_add, Int32.toInt_mul, Int32.toInt_sub, Int32.reduceToInt, Int.bmod_add_bmod, Int.bmod_sub_bmod, Int.add_bmod_bmod, Int.sub_bmod_bmod, Int.bmod_mul_bmod, Int.mul_bmod_bmod]; exact i32_bm (by omega) (by omega)) (by omega) (by omega) | exact i32_in (by decide) (by decide)) (by (try simp (disch := omega) only [tS_1, tS_2, tA_1, tA_2, tF_1, tF_2, xl_0, xl_1, xl_2, Nat.reduceEqDiff, ↓reduceIte, nI_add, nI_1, nm_2, nm_3, nm_4, nm_6, nm_7, nm_8, nm_12, nm_16, nm_24, nm_40, nm_180, nm_300, nm_10210, na_0, na_2, na_3, na_4, na_5, na_6, na_7, na_8, nm_p, nm_m, nI_clamp, hn]); exact rfl) dX8_toCome_19 ?_
  refine x_aload_n hκ dX8_toCome_20 rfl ?_
  refine t_getA hκ fl8_47 (by decide) (by decide) rfl dX8_toCome_21 ?_
  refine x_aload_n hκ dX8_toCome_24 rfl ?_
  refine t_get hκ fl8_48 (by decide) (by decide) rfl (by (try simp (disch := omega) only [tS_1, tS_2, tA_1, tA_2, tF_1, tF_2, xl_0, xl_1, xl_2, Nat.reduceEqDiff, ↓reduceIte, nI_add, nI_1, nm_2, nm_3, nm_4, nm_6, nm_7, nm_8, nm_12, nm_16, nm_24, nm_40, nm_180, nm_300, nm_10210, na_0, na_2, na_3, na_4, na_5, na_6, na_7, na_8, nm_p, nm_m, nI_clamp, hn]); exact rfl) dX8_toCome_25 ?_
  refine x_iload_n hκ dX8_toCome_28 rfl ?_
  refine t_iast (n := 64) hκ hθ (by decide) rfl rfl (by first | ((with_reducible refine vp_in_nI ?_ ?_) <;> omega) | exact i32_in (by omega) (by omega) | exact i32_in' (by simp only [Int32.toInt_add, Int32.toInt_mul, Int32.toInt_sub, Int32.reduceToInt, Int.bmod_add_bmod, Int.bmod_sub_bmod, Int.add_bmod_bmod, Int.sub_bmod_bmod, Int.bmod_mul_bmod, Int.mul_bmod_bmod]; exact i32_bm (by omega) (by omega)) (by omega) (by omega) | exact i32_in (by decide) (by decide)) (by (try simp (disch := omega) only [tS_1, tS_2, tA_1, tA_2, tF_1, tF_2, xl_0, xl_1, xl_2, Nat.reduceEqDiff, ↓reduceIte, nI_add, nI_1, nm_2, nm_3, nm_4, nm_6, nm_7, nm_8, nm_12, nm_16, nm_24, nm_40, nm_180, nm_300, nm_10210, na_0, na_2, na_3, na_4, na_5, na_6, na_7, na_8, nm_p, nm_m, nI_clamp, hn]); exact rfl) dX8_toCome_29 ?_
  refine x_aload_n hκ dX8_toCome_30 rfl ?_
  refine x_dup hκ dX8_toCome_31 rfl ?_
  refine t_get hκ fl8_48 (by decide) (by decide) rfl (by (try simp (disch := omega) only [tS_1, tS_2, tA_1, tA_2, tF_1, tF_2, xl_0, xl_1, xl_2, Nat.reduceEqDiff, ↓reduceIte, nI_add, nI_1, nm_2, nm_3, nm_4, nm_6, nm_7, nm_8, nm_12, nm_16, nm_24, nm_40, nm_180, nm_300, nm_10210, na_0, na_2, na_3, na_4, na_5, na_6, na_7, na_8, nm_p, nm_m, nI_clamp, hn]); exact rfl) dX8_toCome_32 ?_
  refine x_iconst (v := 1) hκ dX8_toCome_35 (by decide) ?_
  refine x_iaddN hκ (by (try simp (disch := omega) only [tS_1, tS_2, tA_1, tA_2, tF_1, tF_2, xl_0, xl_1, xl_2, Nat.reduceEqDiff, ↓reduceIte, nI_add, nI_1, nm_2, nm_3, nm_4, nm_6, nm_7, nm_8, nm_12, nm_16, nm_24, nm_40, nm_180, nm_300, nm_10210, na_0, na_2, na_3, na_4, na_5, na_6, na_7, na_8, nm_p, nm_m, nI_clamp, hn]); exact rfl) dX8_toCome_36 ?_
  refine t_put hκ fl8_48 (by decide) (by decide) rfl rfl rfl dX8_toCome_37 ?_
  refine t_retv hκ hr dX8_toCome_40 ?_
  rfl
abbrev mayP (σ : TS) (l b : Nat) : Prop := σ.2 30 l = 0 ∧ ((σ.2 27 l >>> (nI b &&& 31)) &&& 1 = 1) ∧ ¬ σ.2 26 l = nI b ∧ ¬ (σ.2 33 l - σ.2 35 (16 * b + Int32.toNatClampNeg (σ.2 26 l))).toInt < (σ.2 8 b).toInt
theorem ix_16 {b : Nat} {x : Int32} (hb : b < 3) (h : 0 ≤ x.toInt ∧ x.toInt ≤ 15) : (nI (16 * b) + x).toInt = 16 * b + x.toInt ∧ (nI (16 * b) + x).toNatClampNeg = 16 * b + Int32.toNatClampNeg x := by
  have q : (nI (16 * b) + x).toInt = 16 * b + x.toInt := by
    rw [Int32.toInt_add, nI_toInt (by omega)]
    rw [i32_bm (by omega) (by omega)]
    omega
  refine ⟨q, ?_⟩
  rw [i32_cl, q]
  show _ = 16 * b + x.toInt.toNat
  omega
theorem mX8_mayAnswer {E : gE} {θ : TA} (hθ : tOk θ) {σ : TS} {l b : Nat} (hl : l < 210) (hb : b < 3) (hf : 0 ≤ (σ.2 26 l).toInt ∧ (σ.2 26 l).toInt ≤ 15) : TMi E θ σ yX8_mayAnswer cX8_mayAnswer 4 .boolean 0 [.int (nI l), .int (nI b)] (fun z σ' => Tz (mayP σ l b) z ∧ σ' = σ) := by
  refine TMi.of (by decide) (Nat.le_of_ble_eq_true rfl) ?_
  rintro κ rfl hL hκ hr
  obtain ⟨f1, f2⟩ := ix_16 hb hf
  have J : ∀ z : Int32, Tz (σ.2 30 l = 0 ∧ ((σ.2 27 l >>> (nI b &&& 31)) &&& 1 = 1) ∧ ¬ σ.2 26 l = nI b) z → X κ (tG (kE κ) θ σ) 0 0 39 [some (.ref θ.1), some (.int (nI l)), some (.int (nI b)), some (.int z)] [] := by
    intro z hz
    refine x_iload_n hκ dX8_mayAnswer_39 rfl ?_
    refine x_if_eq (tgt := 79) hκ dX8_mayAnswer_40 (by decide) (fun c40 => ?_) (fun c40 => ?_)
    · -- X8_mayAnswer 40T
      have i40 := c40
      simp (disch := omega) only [i32_lt, i32_le, i32_eq, Int32.reduceToInt, nI_toInt] at i40
      refine x_iconst (v := 0) hκ dX8_mayAnswer_79 (by decide) ?_
      refine t_retz hκ hr rfl dX8_mayAnswer_80 (by first | exact Or.inl rfl | exact Or.inr rfl | assumption) ?_
      exact ⟨Tz0 (fun q => hz.f c40 ⟨q.1, q.2.1, q.2.2.1⟩), rfl⟩
    · -- X8_mayAnswer 40F
      have i40 := c40
      simp (disch := omega) only [i32_lt, i32_le, i32_eq, Int32.reduceToInt, nI_toInt] at i40
      refine x_aload_n hκ dX8_mayAnswer_43 rfl ?_
      refine t_getA hκ fl8_33 (by decide) (by decide) rfl dX8_mayAnswer_44 ?_
      refine x_iload_n hκ dX8_mayAnswer_47 rfl ?_
      refine t_iald (n := 210) hκ hθ (by decide) rfl rfl (by first | ((with_reducible refine vp_in_nI ?_ ?_) <;> omega) | exact i32_in (by omega) (by omega) | exact i32_in' (by simp only [Int32.toInt_add, Int32.toInt_mul, Int32.toInt_sub, Int32.reduceToInt, Int.bmod_add_bmod, Int.bmod_sub_bmod, Int.add_bmod_bmod, Int.sub_bmod_bmod, Int.bmod_mul_bmod, Int.mul_bmod_bmod]; exact i32_bm (by omega) (by omega)) (by omega) (by omega) | exact i32_in (by decide) (by decide)) (by (try simp (disch := omega) only [tS_1, tS_2, tA_1, tA_2, tF_1, tF_2, xl_0, xl_1, xl_2, Nat.reduceEqDiff, ↓reduceIte, nI_add, nI_1, nm_2, nm_3, nm_4, nm_6, nm_7, nm_8, nm_12, nm_16, nm_24, nm_40, nm_180, nm_300, nm_10210, na_0, na_2, na_3, na_4, na_5, na_6, na_7, na_8, nm_p, nm_m, nI_clamp, f2]); exact rfl) dX8_mayAnswer_48 ?_
      refine x_aload_n hκ dX8_mayAnswer_49 rfl ?_
      refine t_getA hκ fl8_35 (by decide) (by decide) rfl dX8_mayAnswer_50 ?_
      refine x_bipush (v := 16) hκ dX8_mayAnswer_53 (by decide) ?_
      refine x_iload_n hκ dX8_mayAnswer_55 rfl ?_
      refine x_imulN hκ (by (try simp (disch := omega) only [tS_1, tS_2, tA_1, tA_2, tF_1, tF_2, xl_0, xl_1, xl_2, Nat.reduceEqDiff, ↓reduceIte, nI_add, nI_1, nm_2, nm_3, nm_4, nm_6, nm_7, nm_8, nm_12, nm_16, nm_24, nm_40, nm_180, nm_300, nm_10210, na_0, na_2, na_3, na_4, na_5, na_6, na_7, na_8, nm_p, nm_m, nI_clamp, f2]); exact rfl) dX8_mayAnswer_56 ?_
      refine x_aload_n hκ dX8_mayAnswer_57 rfl ?_
      refine t_getA hκ fl8_26 (by decide) (by decide) rfl dX8_mayAnswer_58 ?_
      refine x_iload_n hκ dX8_mayAnswer_61 rfl ?_
      refine t_iald (n := 210) hκ hθ (by decide) rfl rfl (by first | ((with_reducible refine vp_in_nI ?_ ?_) <;> omega) | exact i32_in (by omega) (by omega) | exact i32_in' (by simp only [Int32.toInt_add, Int32.toInt_mul, Int32.toInt_sub, Int32.reduceToInt, Int.bmod_add_bmod, Int.bmod_sub_bmod, Int.add_bmod_bmod, Int.sub_bmod_bmod, Int.bmod_mul_bmod, Int.mul_bmod_bmod]; exact i32_bm (by omega) (by omega)) (by omega) (by omega) | exact i32_in (by decide) (by decide)) (by (try simp (disch := omega) only [tS_1, tS_2, tA_1, tA_2, tF_1, tF_2, xl_0, xl_1, xl_2, Nat.reduceEqDiff, ↓reduceIte, nI_add, nI_1, nm_2, nm_3, nm_4, nm_6, nm_7, nm_8, nm_12, nm_16, nm_24, nm_40, nm_180, nm_300, nm_10210, na_0, na_2, na_3, na_4, na_5, na_6, na_7, na_8, nm_p, nm_m, nI_clamp, f2]); exact rfl) dX8_mayAnswer_62 ?_
      refine x_iaddN hκ (by (try simp (disch := omega) only [tS_1, tS_2, tA_1, tA_2, tF_1, tF_2, xl_0, xl_1, xl_2, Nat.reduceEqDiff, ↓reduceIte, nI_add, nI_1, nm_2, nm_3, nm_4, nm_6, nm_7, nm_8, nm_12, nm_16, nm_24, nm_40, nm_180, nm_300, nm_10210, na_0, na_2, na_3, na_4, na_5, na_6, na_7, na_8, nm_p, nm_m, nI_clamp, f2]); exact rfl) dX8_mayAnswer_63 ?_
      refine t_iald (n := 48) hκ hθ (by decide) rfl rfl (i32_in (by rw [f1]; omega) (by rw [f1]; omega)) (by (try simp (disch := omega) only [tS_1, tS_2, tA_1, tA_2, tF_1, tF_2, xl_0, xl_1, xl_2, Nat.reduceEqDiff, ↓reduceIte, nI_add, nI_1, nm_2, nm_3, nm_4, nm_6, nm_7, nm_8, nm_12, nm_16, nm_24, nm_40, nm_180, nm_300, nm_10210, na_0, na_2, na_3, na_4, na_5, na_6, na_7, na_8, nm_p, nm_m, nI_clamp, f2]); exact rfl) dX8_mayAnswer_64 ?_
      refine x_isubN hκ (by (try simp (disch := omega) only [tS_1, tS_2, tA_1, tA_2, tF_1, tF_2, xl_0, xl_1, xl_2, Nat.reduceEqDiff, ↓reduceIte, nI_add, nI_1, nm_2, nm_3, nm_4, nm_6, nm_7, nm_8, nm_12, nm_16, nm_24, nm_40, nm_180, nm_300, nm_10210, na_0, na_2, na_3, na_4, na_5, na_6, na_7, na_8, nm_p, nm_m, nI_clamp, f2]); exact rfl) dX8_mayAnswer_65 ?_
      refine x_aload_n hκ dX8_mayAnswer_66 rfl ?_
      refine t_getA hκ fl8_8 (by decide) (by decide) rfl dX8_mayAnswer_67 ?_
      refine x_iload_n hκ dX8_mayAnswer_70 rfl ?_
      refine t_iald (n := 3) hκ hθ (by decide) rfl rfl (by first | ((with_reducible refine vp_in_nI ?_ ?_) <;> omega) | exact i32_in (by omega) (by omega) | exact i32_in' (by simp only [Int32.toInt_add, Int32.toInt_mul, Int32.toInt_sub, Int32.reduceToInt, Int.bmod_add_bmod, Int.bmod_sub_bmod, Int.add_bmod_bmod, Int.sub_bmod_bmod, Int.bmod_mul_bmod, Int.mul_bmod_bmod]; exact i32_bm (by omega) (by omega)) (by omega) (by omega) | exact i32_in (by decide) (by decide)) (by (try simp (disch := omega) only [tS_1, tS_2, tA_1, tA_2, tF_1, tF_2, xl_0, xl_1, xl_2, Nat.reduceEqDiff, ↓reduceIte, nI_add, nI_1, nm_2, nm_3, nm_4, nm_6, nm_7, nm_8, nm_12, nm_16, nm_24, nm_40, nm_180, nm_300, nm_10210, na_0, na_2, na_3, na_4, na_5, na_6, na_7, na_8, nm_p, nm_m, nI_clamp, f2]); exact rfl) dX8_mayAnswer_71 ?_
      refine x_icmp_lt (tgt := 79) hκ dX8_mayAnswer_72 (by decide) (fun c72 => ?_) (fun c72 => ?_)
      · -- X8_mayAnswer 72T
        have i72 := c72
        simp (disch := omega) only [i32_lt, i32_le, i32_eq, Int32.reduceToInt, nI_toInt] at i72
        refine x_iconst (v := 0) hκ dX8_mayAnswer_79 (by decide) ?_
        refine t_retz hκ hr rfl dX8_mayAnswer_80 (by first | exact Or.inl rfl | exact Or.inr rfl | assumption) ?_
        exact ⟨Tz0 (fun q => q.2.2.2 i72), rfl⟩
      · -- X8_mayAnswer 72F
        have i72 := c72
        simp (disch := omega) only [i32_lt, i32_le, i32_eq, Int32.reduceToInt, nI_toInt] at i72
        refine x_iconst (v := 1) hκ dX8_mayAnswer_75 (by decide) ?_
        refine x_goto (tgt := 80) hκ dX8_mayAnswer_76 (by decide) ?_
        refine t_retz hκ hr rfl dX8_mayAnswer_80 (by first | exact Or.inl rfl | exact Or.inr rfl | assumption) ?_
        exact ⟨Tz1 ⟨(hz.t c40).1, (hz.t c40).2.1, (hz.t c40).2.2, i72⟩, rfl⟩
  refine x_aload_n hκ dX8_mayAnswer_0 rfl ?_
  refine t_getA hκ fl8_30 (by decide) (by decide) rfl dX8_mayAnswer_1 ?_
  refine x_iload_n hκ dX8_mayAnswer_4 rfl ?_
  refine t_iald (n := 210) hκ hθ (by decide) rfl rfl (by first | ((with_reducible refine vp_in_nI ?_ ?_) <;> omega) | exact i32_in (by omega) (by omega) | exact i32_in' (by simp only [Int32.toInt_add, Int32.toInt_mul, Int32.toInt_sub, Int32.reduceToInt, Int.bmod_add_bmod, Int.bmod_sub_bmod, Int.add_bmod_bmod, Int.sub_bmod_bmod, Int.bmod_mul_bmod, Int.mul_bmod_bmod]; exact i32_bm (by omega) (by omega)) (by omega) (by omega) | exact i32_in (by decide) (by decide)) (by (try simp (disch := omega) only [tS_1, tS_2, tA_1, tA_2, tF_1, tF_2, xl_0, xl_1, xl_2, Nat.reduceEqDiff, ↓reduceIte, nI_add, nI_1, nm_2, nm_3, nm_4, nm_6, nm_7, nm_8, nm_12, nm_16, nm_24, nm_40, nm_180, nm_300, nm_10210, na_0, na_2, na_3, na_4, na_5, na_6, na_7, na_8, nm_p, nm_m, nI_clamp]); exact rfl) dX8_mayAnswer_5 ?_
  refine x_if_ne (tgt := 37) hκ dX8_mayAnswer_6 (by decide) (fun c6 => ?_) (fun c6 => ?_)
  · -- X8_mayAnswer 6T
    have i6 := c6
    simp (disch := omega) only [i32_lt, i32_le, i32_eq, Int32.reduceToInt, nI_toInt] at i6
    refine x_iconst (v := 0) hκ dX8_mayAnswer_37 (by decide) ?_
    refine x_istore_n hκ dX8_mayAnswer_38 (by rw [hL]; decide) rfl ?_
    exact J 0 (Tz0 (fun q => c6 q.1))
  · -- X8_mayAnswer 6F
    have i6 := c6
    simp (disch := omega) only [i32_lt, i32_le, i32_eq, Int32.reduceToInt, nI_toInt] at i6
    refine x_aload_n hκ dX8_mayAnswer_9 rfl ?_
    refine t_getA hκ fl8_27 (by decide) (by decide) rfl dX8_mayAnswer_10 ?_
    refine x_iload_n hκ dX8_mayAnswer_13 rfl ?_
    refine t_iald (n := 210) hκ hθ (by decide) rfl rfl (by first | ((with_reducible refine vp_in_nI ?_ ?_) <;> omega) | exact i32_in (by omega) (by omega) | exact i32_in' (by simp only [Int32.toInt_add, Int32.toInt_mul, Int32.toInt_sub, Int32.reduceToInt, Int.bmod_add_bmod, Int.bmod_sub_bmod, Int.add_bmod_bmod, Int.sub_bmod_bmod, Int.bmod_mul_bmod, Int.mul_bmod_bmod]; exact i32_bm (by omega) (by omega)) (by omega) (by omega) | exact i32_in (by decide) (by decide)) (by (try simp (disch := omega) only [tS_1, tS_2, tA_1, tA_2, tF_1, tF_2, xl_0, xl_1, xl_2, Nat.reduceEqDiff, ↓reduceIte, nI_add, nI_1, nm_2, nm_3, nm_4, nm_6, nm_7, nm_8, nm_12, nm_16, nm_24, nm_40, nm_180, nm_300, nm_10210, na_0, na_2, na_3, na_4, na_5, na_6, na_7, na_8, nm_p, nm_m, nI_clamp]); exact rfl) dX8_mayAnswer_14 ?_
    refine x_iload_n hκ dX8_mayAnswer_15 rfl ?_
    refine x_ishr hκ dX8_mayAnswer_16 ?_
    refine x_iconst (v := 1) hκ dX8_mayAnswer_17 (by decide) ?_
    refine x_iand hκ dX8_mayAnswer_18 ?_
    refine x_iconst (v := 1) hκ dX8_mayAnswer_19 (by decide) ?_
    refine x_icmp_ne (tgt := 37) hκ dX8_mayAnswer_20 (by decide) (fun c20 => ?_) (fun c20 => ?_)
    · -- X8_mayAnswer 20T
      have i20 := c20
      simp (disch := omega) only [i32_lt, i32_le, i32_eq, Int32.reduceToInt, nI_toInt] at i20
      refine x_iconst (v := 0) hκ dX8_mayAnswer_37 (by decide) ?_
      refine x_istore_n hκ dX8_mayAnswer_38 (by rw [hL]; decide) rfl ?_
      exact J 0 (Tz0 (fun q => c20 q.2.1))
    · -- X8_mayAnswer 20F
      have i20 := c20
      simp (disch := omega) only [i32_lt, i32_le, i32_eq, Int32.reduceToInt, nI_toInt] at i20
      refine x_aload_n hκ dX8_mayAnswer_23 rfl ?_
      refine t_getA hκ fl8_26 (by decide) (by decide) rfl dX8_mayAnswer_24 ?_
      refine x_iload_n hκ dX8_mayAnswer_27 rfl ?_
      refine t_iald (n := 210) hκ hθ (by decide) rfl rfl (by first | ((with_reducible refine vp_in_nI ?_ ?_) <;> omega) | exact i32_in (by omega) (by omega) | exact i32_in' (by simp only [Int32.toInt_add, Int32.toInt_mul, Int32.toInt_sub, Int32.reduceToInt, Int.bmod_add_bmod, Int.bmod_sub_bmod, Int.add_bmod_bmod, Int.sub_bmod_bmod, Int.bmod_mul_bmod, Int.mul_bmod_bmod]; exact i32_bm (by omega) (by omega)) (by omega) (by omega) | exact i32_in (by decide) (by decide)) (by (try simp (disch := omega) only [tS_1, tS_2, tA_1, tA_2, tF_1, tF_2, xl_0, xl_1, xl_2, Nat.reduceEqDiff, ↓reduceIte, nI_add, nI_1, nm_2, nm_3, nm_4, nm_6, nm_7, nm_8, nm_12, nm_16, nm_24, nm_40, nm_180, nm_300, nm_10210, na_0, na_2, na_3, na_4, na_5, na_6, na_7, na_8, nm_p, nm_m, nI_clamp]); exact rfl) dX8_mayAnswer_28 ?_
      refine x_iload_n hκ dX8_mayAnswer_29 rfl ?_
      refine x_icmp_eq (tgt := 37) hκ dX8_mayAnswer_30 (by decide) (fun c30 => ?_) (fun c30 => ?_)
      · -- X8_mayAnswer 30T
        have i30 := c30
        simp (disch := omega) only [i32_lt, i32_le, i32_eq, Int32.reduceToInt, nI_toInt] at i30
        refine x_iconst (v := 0) hκ dX8_mayAnswer_37 (by decide) ?_
        refine x_istore_n hκ dX8_mayAnswer_38 (by rw [hL]; decide) rfl ?_
        exact J 0 (Tz0 (fun q => q.2.2 c30))
      · -- X8_mayAnswer 30F
        have i30 := c30
        simp (disch := omega) only [i32_lt, i32_le, i32_eq, Int32.reduceToInt, nI_toInt] at i30
        refine x_iconst (v := 1) hκ dX8_mayAnswer_33 (by decide) ?_
        refine x_goto (tgt := 38) hκ dX8_mayAnswer_34 (by decide) ?_
        refine x_istore_n hκ dX8_mayAnswer_38 (by rw [hL]; decide) rfl ?_
        exact J 1 (Tz1 ⟨c6, c20, c30⟩)
def answersS (σ : TS) (n l b : Nat) : TS := addS (tS (tS (tA σ 35 (16 * b + Int32.toNatClampNeg (σ.2 26 l)) (σ.2 33 l)) 38 (σ.1 38 + 1)) 53 (nI n)) n (nI b) (1 <<< (σ.2 26 l &&& 31)) 0 100 2 (nI (10000 + n)) (σ.2 31 l) (σ.2 33 l)
theorem na_10000 (n : Nat) : (10000 : Int32) + nI n = nI (10000 + n) := nI_add 10000 n
theorem mX8_answers {E : gE} {θ : TA} (hθ : tOk θ) {σ : TS} {n l b : Nat} (hn : σ.1 25 = nI n) (h : n < 210) (hl : l < 210) (hb : b < 3) (hf : 0 ≤ (σ.2 26 l).toInt ∧ (σ.2 26 l).toInt ≤ 15) : TMv E θ σ yX8_answers cX8_answers 3 1 [.int (nI l), .int (nI b)] (fun σ' => σ' = answersS σ n l b) := by
  refine TMv.of (by decide) (Nat.le_of_ble_eq_true rfl) ?_
  rintro κ rfl hL hκ hr
  obtain ⟨f1, f2⟩ := ix_16 hb hf
  refine x_aload_n hκ dX8_answers_0 rfl ?_
  refine t_getA hκ fl8_35 (by decide) (by decide) rfl dX8_answers_1 ?_
  refine x_bipush (v := 16) hκ dX8_answers_4 (by decide) ?_
  refine x_iload_n hκ dX8_answers_6 rfl ?_
  refine x_imulN hκ (by (try simp (disch := omega) only [tS_1, tS_2, tA_1, tA_2, tF_1, tF_2, xl_0, xl_1, xl_2, Nat.reduceEqDiff, ↓reduceIte, nI_add, nI_1, nm_2, nm_3, nm_4, nm_6, nm_7, nm_8, nm_12, nm_16, nm_24, nm_40, nm_180, nm_300, nm_10210, na_0, na_2, na_3, na_4, na_5, na_6, na_7, na_8, nm_p, nm_m, nI_clamp, f2, hn, na_10000]); exact rfl) dX8_answers_7 ?_
  refine x_aload_n hκ dX8_answers_8 rfl ?_
  refine t_getA hκ fl8_26 (by decide) (by decide) rfl dX8_answers_9 ?_
  refine x_iload_n hκ dX8_answers_12 rfl ?_
  refine t_iald (n := 210) hκ hθ (by decide) rfl rfl (by first | ((with_reducible refine vp_in_nI ?_ ?_) <;> omega) | exact i32_in (by omega) (by omega) | exact i32_in' (by simp only [Int32.toInt_add, Int32.toInt_mul, Int32.toInt_sub, Int32.reduceToInt, Int.bmod_add_bmod, Int.bmod_sub_bmod, Int.add_bmod_bmod, Int.sub_bmod_bmod, Int.bmod_mul_bmod, Int.mul_bmod_bmod]; exact i32_bm (by omega) (by omega)) (by omega) (by omega) | exact i32_in (by decide) (by decide)) (by (try simp (disch := omega) only [tS_1, tS_2, tA_1, tA_2, tF_1, tF_2, xl_0, xl_1, xl_2, Nat.reduceEqDiff, ↓reduceIte, nI_add, nI_1, nm_2, nm_3, nm_4, nm_6, nm_7, nm_8, nm_12, nm_16, nm_24, nm_40, nm_180, nm_300, nm_10210, na_0, na_2, na_3, na_4, na_5, na_6, na_7, na_8, nm_p, nm_m, nI_clamp, f2, hn, na_10000]); exact rfl) dX8_answers_13 ?_
  refine x_iaddN hκ (by (try simp (disch := omega) only [tS_1, tS_2, tA_1, tA_2, tF_1, tF_2, xl_0, xl_1, xl_2, Nat.reduceEqDiff, ↓reduceIte, nI_add, nI_1, nm_2, nm_3, nm_4, nm_6, nm_7, nm_8, nm_12, nm_16, nm_24, nm_40, nm_180, nm_300, nm_10210, na_0, na_2, na_3, na_4, na_5, na_6, na_7, na_8, nm_p, nm_m, nI_clamp, f2, hn, na_10000]); exact rfl) dX8_answers_14 ?_
  refine x_aload_n hκ dX8_answers_15 rfl ?_
  refine t_getA hκ fl8_33 (by decide) (by decide) rfl dX8_answers_16 ?_
  refine x_iload_n hκ dX8_answers_19 rfl ?_
  refine t_iald (n := 210) hκ hθ (by decide) rfl rfl (by first | ((with_reducible refine vp_in_nI ?_ ?_) <;> omega) | exact i32_in (by omega) (by omega) | exact i32_in' (by simp only [Int32.toInt_add, Int32.toInt_mul, Int32.toInt_sub, Int32.reduceToInt, Int.bmod_add_bmod, Int.bmod_sub_bmod, Int.add_bmod_bmod, Int.sub_bmod_bmod, Int.bmod_mul_bmod, Int.mul_bmod_bmod]; exact i32_bm (by omega) (by omega)) (by omega) (by omega) | exact i32_in (by decide) (by decide)) (by (try simp (disch := omega) only [tS_1, tS_2, tA_1, tA_2, tF_1, tF_2, xl_0, xl_1, xl_2, Nat.reduceEqDiff, ↓reduceIte, nI_add, nI_1, nm_2, nm_3, nm_4, nm_6, nm_7, nm_8, nm_12, nm_16, nm_24, nm_40, nm_180, nm_300, nm_10210, na_0, na_2, na_3, na_4, na_5, na_6, na_7, na_8, nm_p, nm_m, nI_clamp, f2, hn, na_10000]); exact rfl) dX8_answers_20 ?_
  refine t_iast (n := 48) hκ hθ (by decide) rfl rfl (i32_in (by rw [f1]; omega) (by rw [f1]; omega)) (by (try simp (disch := omega) only [tS_1, tS_2, tA_1, tA_2, tF_1, tF_2, xl_0, xl_1, xl_2, Nat.reduceEqDiff, ↓reduceIte, nI_add, nI_1, nm_2, nm_3, nm_4, nm_6, nm_7, nm_8, nm_12, nm_16, nm_24, nm_40, nm_180, nm_300, nm_10210, na_0, na_2, na_3, na_4, na_5, na_6, na_7, na_8, nm_p, nm_m, nI_clamp, f2, hn, na_10000]); exact rfl) dX8_answers_21 ?_
  refine x_aload_n hκ dX8_answers_22 rfl ?_
  refine x_dup hκ dX8_answers_23 rfl ?_
  refine t_get hκ fl8_38 (by decide) (by decide) rfl (by (try simp (disch := omega) only [tS_1, tS_2, tA_1, tA_2, tF_1, tF_2, xl_0, xl_1, xl_2, Nat.reduceEqDiff, ↓reduceIte, nI_add, nI_1, nm_2, nm_3, nm_4, nm_6, nm_7, nm_8, nm_12, nm_16, nm_24, nm_40, nm_180, nm_300, nm_10210, na_0, na_2, na_3, na_4, na_5, na_6, na_7, na_8, nm_p, nm_m, nI_clamp, f2, hn, na_10000]); exact rfl) dX8_answers_24 ?_
  refine x_iconst (v := 1) hκ dX8_answers_27 (by decide) ?_
  refine x_iaddN hκ (by (try simp (disch := omega) only [tS_1, tS_2, tA_1, tA_2, tF_1, tF_2, xl_0, xl_1, xl_2, Nat.reduceEqDiff, ↓reduceIte, nI_add, nI_1, nm_2, nm_3, nm_4, nm_6, nm_7, nm_8, nm_12, nm_16, nm_24, nm_40, nm_180, nm_300, nm_10210, na_0, na_2, na_3, na_4, na_5, na_6, na_7, na_8, nm_p, nm_m, nI_clamp, f2, hn, na_10000]); exact rfl) dX8_answers_28 ?_
  refine t_put hκ fl8_38 (by decide) (by decide) rfl rfl rfl dX8_answers_29 ?_
  refine x_aload_n hκ dX8_answers_32 rfl ?_
  refine x_aload_n hκ dX8_answers_33 rfl ?_
  refine t_get hκ fl8_25 (by decide) (by decide) rfl (by (try simp (disch := omega) only [tS_1, tS_2, tA_1, tA_2, tF_1, tF_2, xl_0, xl_1, xl_2, Nat.reduceEqDiff, ↓reduceIte, nI_add, nI_1, nm_2, nm_3, nm_4, nm_6, nm_7, nm_8, nm_12, nm_16, nm_24, nm_40, nm_180, nm_300, nm_10210, na_0, na_2, na_3, na_4, na_5, na_6, na_7, na_8, nm_p, nm_m, nI_clamp, f2, hn, na_10000]); exact rfl) dX8_answers_34 ?_
  refine t_put hκ fl8_53 (by decide) (by decide) rfl rfl rfl dX8_answers_37 ?_
  refine x_aload_n hκ dX8_answers_40 rfl ?_
  refine x_iload_n hκ dX8_answers_41 rfl ?_
  refine x_iconst (v := 1) hκ dX8_answers_42 (by decide) ?_
  refine x_aload_n hκ dX8_answers_43 rfl ?_
  refine t_getA hκ fl8_26 (by decide) (by decide) rfl dX8_answers_44 ?_
  refine x_iload_n hκ dX8_answers_47 rfl ?_
  refine t_iald (n := 210) hκ hθ (by decide) rfl rfl (by first | ((with_reducible refine vp_in_nI ?_ ?_) <;> omega) | exact i32_in (by omega) (by omega) | exact i32_in' (by simp only [Int32.toInt_add, Int32.toInt_mul, Int32.toInt_sub, Int32.reduceToInt, Int.bmod_add_bmod, Int.bmod_sub_bmod, Int.add_bmod_bmod, Int.sub_bmod_bmod, Int.bmod_mul_bmod, Int.mul_bmod_bmod]; exact i32_bm (by omega) (by omega)) (by omega) (by omega) | exact i32_in (by decide) (by decide)) (by (try simp (disch := omega) only [tS_1, tS_2, tA_1, tA_2, tF_1, tF_2, xl_0, xl_1, xl_2, Nat.reduceEqDiff, ↓reduceIte, nI_add, nI_1, nm_2, nm_3, nm_4, nm_6, nm_7, nm_8, nm_12, nm_16, nm_24, nm_40, nm_180, nm_300, nm_10210, na_0, na_2, na_3, na_4, na_5, na_6, na_7, na_8, nm_p, nm_m, nI_clamp, f2, hn, na_10000]); exact rfl) dX8_answers_48 ?_
  refine x_ishl hκ dX8_answers_49 ?_
  refine x_iconst (v := 0) hκ dX8_answers_50 (by decide) ?_
  refine x_bipush (v := 100) hκ dX8_answers_51 (by decide) ?_
  refine x_iconst (v := 2) hκ dX8_answers_53 (by decide) ?_
  refine x_sipush (v := 10000) hκ dX8_answers_54 (by decide) ?_
  refine x_aload_n hκ dX8_answers_57 rfl ?_
  refine t_get hκ fl8_25 (by decide) (by decide) rfl (by (try simp (disch := omega) only [tS_1, tS_2, tA_1, tA_2, tF_1, tF_2, xl_0, xl_1, xl_2, Nat.reduceEqDiff, ↓reduceIte, nI_add, nI_1, nm_2, nm_3, nm_4, nm_6, nm_7, nm_8, nm_12, nm_16, nm_24, nm_40, nm_180, nm_300, nm_10210, na_0, na_2, na_3, na_4, na_5, na_6, na_7, na_8, nm_p, nm_m, nI_clamp, f2, hn, na_10000]); exact rfl) dX8_answers_58 ?_
  refine x_iaddN hκ (by (try simp (disch := omega) only [tS_1, tS_2, tA_1, tA_2, tF_1, tF_2, xl_0, xl_1, xl_2, Nat.reduceEqDiff, ↓reduceIte, nI_add, nI_1, nm_2, nm_3, nm_4, nm_6, nm_7, nm_8, nm_12, nm_16, nm_24, nm_40, nm_180, nm_300, nm_10210, na_0, na_2, na_3, na_4, na_5, na_6, na_7, na_8, nm_p, nm_m, nI_clamp, f2, hn, na_10000]); exact rfl) dX8_answers_61 ?_
  refine x_aload_n hκ dX8_answers_62 rfl ?_
  refine t_getA hκ fl8_31 (by decide) (by decide) rfl dX8_answers_63 ?_
  refine x_iload_n hκ dX8_answers_66 rfl ?_
  refine t_iald (n := 210) hκ hθ (by decide) rfl rfl (by first | ((with_reducible refine vp_in_nI ?_ ?_) <;> omega) | exact i32_in (by omega) (by omega) | exact i32_in' (by simp only [Int32.toInt_add, Int32.toInt_mul, Int32.toInt_sub, Int32.reduceToInt, Int.bmod_add_bmod, Int.bmod_sub_bmod, Int.add_bmod_bmod, Int.sub_bmod_bmod, Int.bmod_mul_bmod, Int.mul_bmod_bmod]; exact i32_bm (by omega) (by omega)) (by omega) (by omega) | exact i32_in (by decide) (by decide)) (by (try simp (disch := omega) only [tS_1, tS_2, tA_1, tA_2, tF_1, tF_2, xl_0, xl_1, xl_2, Nat.reduceEqDiff, ↓reduceIte, nI_add, nI_1, nm_2, nm_3, nm_4, nm_6, nm_7, nm_8, nm_12, nm_16, nm_24, nm_40, nm_180, nm_300, nm_10210, na_0, na_2, na_3, na_4, na_5, na_6, na_7, na_8, nm_p, nm_m, nI_clamp, f2, hn, na_10000]); exact rfl) dX8_answers_67 ?_
  refine x_aload_n hκ dX8_answers_68 rfl ?_
  refine t_getA hκ fl8_33 (by decide) (by decide) rfl dX8_answers_69 ?_
  refine x_iload_n hκ dX8_answers_72 rfl ?_
  refine t_iald (n := 210) hκ hθ (by decide) rfl rfl (by first | ((with_reducible refine vp_in_nI ?_ ?_) <;> omega) | exact i32_in (by omega) (by omega) | exact i32_in' (by simp only [Int32.toInt_add, Int32.toInt_mul, Int32.toInt_sub, Int32.reduceToInt, Int.bmod_add_bmod, Int.bmod_sub_bmod, Int.add_bmod_bmod, Int.sub_bmod_bmod, Int.bmod_mul_bmod, Int.mul_bmod_bmod]; exact i32_bm (by omega) (by omega)) (by omega) (by omega) | exact i32_in (by decide) (by decide)) (by (try simp (disch := omega) only [tS_1, tS_2, tA_1, tA_2, tF_1, tF_2, xl_0, xl_1, xl_2, Nat.reduceEqDiff, ↓reduceIte, nI_add, nI_1, nm_2, nm_3, nm_4, nm_6, nm_7, nm_8, nm_12, nm_16, nm_24, nm_40, nm_180, nm_300, nm_10210, na_0, na_2, na_3, na_4, na_5, na_6, na_7, na_8, nm_p, nm_m, nI_clamp, f2, hn, na_10000]); exact rfl) dX8_answers_73 ?_
  refine t_callv hκ (mX8_add hθ (n := n) (by exact hn) h) (by omega) (by decide) wX8_230 aX8_add rfl (Nat.le_of_ble_eq_true rfl) dX8_answers_74 (fun σ74 h74 => ?_)
  subst h74
  refine t_retv hκ hr dX8_answers_77 ?_
  rfl
def actsS (σ : TS) (c : Int32) (l b : Nat) (tr : Int32) : TS :=
  if c < 4 then tS σ 49 (σ.1 49 ||| (1 <<< (c &&& 31)))
  else if c < 7 then (if ¬ (c - 4) = nI b ∧ (tr >>> ((c - 4) &&& 31)) &&& 1 = 0 ∧ (σ.1 50 >>> ((c - 4) &&& 31)) &&& 1 = 0 then toComeS (tS (tS σ 50 (σ.1 50 ||| (1 <<< ((c - 4) &&& 31)))) 36 (σ.1 36 + 1)) (Int32.toNatClampNeg (σ.1 48)) (nI l) (c - 4) (tr ||| (1 <<< (nI b &&& 31))) else σ)
  else if c = 7 then tS σ 51 1
  else if c = 8 then (if mayP σ l b then answersS σ (Int32.toNatClampNeg (σ.1 25)) l b else σ)
  else if c = 9 then tS σ 52 1 else σ
theorem mX8_acts {E : gE} {θ : TA} (hθ : tOk θ) {σ : TS} {n n8 l b : Nat} (hn : σ.1 25 = nI n) (h : n < 210) (hn8 : σ.1 48 = nI n8) (h8 : n8 < 64) (hl : l < 210) (hb : b < 3) (hf : 0 ≤ (σ.2 26 l).toInt ∧ (σ.2 26 l).toInt ≤ 15) {c tr : Int32} : TMv E θ σ yX8_acts cX8_acts 6 2 [.int c, .int (nI l), .int (nI b), .int tr] (fun σ' => σ' = actsS σ c l b tr) := by
  refine TMv.of (by decide) (Nat.le_of_ble_eq_true rfl) ?_
  rintro κ rfl hL hκ hr
  have g1 : Int32.toNatClampNeg (σ.1 48) = n8 := by rw [hn8]; exact nI_clamp (by omega)
  have g2 : Int32.toNatClampNeg (σ.1 25) = n := by rw [hn]; exact nI_clamp (by omega)
  refine x_iload_n hκ dX8_acts_0 rfl ?_
  refine x_iconst (v := 4) hκ dX8_acts_1 (by decide) ?_
  refine x_icmp_ge (tgt := 20) hκ dX8_acts_2 (by decide) (fun c2 => ?_) (fun c2 => ?_)
  · -- X8_acts 2T
    have i2 := c2
    simp (disch := omega) only [i32_lt, i32_le, i32_eq, Int32.reduceToInt, nI_toInt] at i2
    refine x_iload_n hκ dX8_acts_20 rfl ?_
    refine x_bipush (v := 7) hκ dX8_acts_21 (by decide) ?_
    refine x_icmp_ge (tgt := 98) hκ dX8_acts_23 (by decide) (fun c23 => ?_) (fun c23 => ?_)
    · -- X8_acts 23T
      have i23 := c23
      simp (disch := omega) only [i32_lt, i32_le, i32_eq, Int32.reduceToInt, nI_toInt] at i23
      refine x_iload_n hκ dX8_acts_98 rfl ?_
      refine x_bipush (v := 7) hκ dX8_acts_99 (by decide) ?_
      refine x_icmp_ne (tgt := 112) hκ dX8_acts_101 (by decide) (fun c101 => ?_) (fun c101 => ?_)
      · -- X8_acts 101T
        have i101 := c101
        simp (disch := omega) only [i32_lt, i32_le, i32_eq, Int32.reduceToInt, nI_toInt] at i101
        refine x_iload_n hκ dX8_acts_112 rfl ?_
        refine x_bipush (v := 8) hκ dX8_acts_113 (by decide) ?_
        refine x_icmp_ne (tgt := 136) hκ dX8_acts_115 (by decide) (fun c115 => ?_) (fun c115 => ?_)
        · -- X8_acts 115T
          have i115 := c115
          simp (disch := omega) only [i32_lt, i32_le, i32_eq, Int32.reduceToInt, nI_toInt] at i115
          refine x_iload_n hκ dX8_acts_136 rfl ?_
          refine x_bipush (v := 9) hκ dX8_acts_137 (by decide) ?_
          refine x_icmp_ne (tgt := 147) hκ dX8_acts_139 (by decide) (fun c139 => ?_) (fun c139 => ?_)
          · -- X8_acts 139T
            have i139 := c139
            simp (disch := omega) only [i32_lt, i32_le, i32_eq, Int32.reduceToInt, nI_toInt] at i139
            refine t_retv hκ hr dX8_acts_147 ?_
            rw [actsS, if_neg (by simp only [i32_lt, Int32.reduceToInt]; omega), if_neg (by simp only [i32_lt, Int32.reduceToInt]; omega), if_neg c101, if_neg c115, if_neg c139]
          · -- X8_acts 139F
            have i139 := c139
            simp (disch := omega) only [i32_lt, i32_le, i32_eq, Int32.reduceToInt, nI_toInt] at i139
            refine x_aload_n hκ dX8_acts_142 rfl ?_
            refine x_iconst (v := 1) hκ dX8_acts_143 (by decide) ?_
            refine t_putZ hκ fl8_52 (by decide) (by decide) rfl rfl rfl (by first | exact Or.inl rfl | exact Or.inr rfl | assumption) dX8_acts_144 ?_
            refine t_retv hκ hr dX8_acts_147 ?_
            rw [actsS, if_neg (by simp only [i32_lt, Int32.reduceToInt]; omega), if_neg (by simp only [i32_lt, Int32.reduceToInt]; omega), if_neg c101, if_neg c115, if_pos c139]
        · -- X8_acts 115F
          have i115 := c115
          simp (disch := omega) only [i32_lt, i32_le, i32_eq, Int32.reduceToInt, nI_toInt] at i115
          refine x_aload_n hκ dX8_acts_118 rfl ?_
          refine x_iload_n hκ dX8_acts_119 rfl ?_
          refine x_iload_n hκ dX8_acts_120 rfl ?_
          refine t_callR hκ (mX8_mayAnswer hθ hl hb hf) (by omega) (by decide) wX8_250 aX8_mayAnswer rfl (Nat.le_of_ble_eq_true rfl) dX8_acts_121 (fun r121 h121 => ?_)
          refine x_if_eq (tgt := 147) hκ dX8_acts_124 (by decide) (fun c124 => ?_) (fun c124 => ?_)
          · -- X8_acts 124T
            have i124 := h121.f c124
            try simp only [Int32.reduceToInt] at i124
            refine t_retv hκ hr dX8_acts_147 ?_
            rw [actsS, if_neg (by simp only [i32_lt, Int32.reduceToInt]; omega), if_neg (by simp only [i32_lt, Int32.reduceToInt]; omega), if_neg c101, if_pos c115, if_neg i124]
          · -- X8_acts 124F
            have i124 := h121.t c124
            try simp only [Int32.reduceToInt] at i124
            refine x_aload_n hκ dX8_acts_127 rfl ?_
            refine x_iload_n hκ dX8_acts_128 rfl ?_
            refine x_iload_n hκ dX8_acts_129 rfl ?_
            refine t_callv hκ (mX8_answers hθ hn h hl hb hf) (by omega) (by decide) wX8_254 aX8_answers rfl (Nat.le_of_ble_eq_true rfl) dX8_acts_130 (fun σ130 h130 => ?_)
            subst h130
            refine x_goto (tgt := 147) hκ dX8_acts_133 (by decide) ?_
            refine t_retv hκ hr dX8_acts_147 ?_
            rw [actsS, if_neg (by simp only [i32_lt, Int32.reduceToInt]; omega), if_neg (by simp only [i32_lt, Int32.reduceToInt]; omega), if_neg c101, if_pos c115, if_pos i124, g2]
      · -- X8_acts 101F
        have i101 := c101
        simp (disch := omega) only [i32_lt, i32_le, i32_eq, Int32.reduceToInt, nI_toInt] at i101
        refine x_aload_n hκ dX8_acts_104 rfl ?_
        refine x_iconst (v := 1) hκ dX8_acts_105 (by decide) ?_
        refine t_putZ hκ fl8_51 (by decide) (by decide) rfl rfl rfl (by first | exact Or.inl rfl | exact Or.inr rfl | assumption) dX8_acts_106 ?_
        refine x_goto (tgt := 147) hκ dX8_acts_109 (by decide) ?_
        refine t_retv hκ hr dX8_acts_147 ?_
        rw [actsS, if_neg (by simp only [i32_lt, Int32.reduceToInt]; omega), if_neg (by simp only [i32_lt, Int32.reduceToInt]; omega), if_pos c101]
    · -- X8_acts 23F
      have i23 := c23
      simp (disch := omega) only [i32_lt, i32_le, i32_eq, Int32.reduceToInt, nI_toInt] at i23
      refine x_iload_n hκ dX8_acts_26 rfl ?_
      refine x_iconst (v := 4) hκ dX8_acts_27 (by decide) ?_
      refine x_isubN hκ (by (try simp (disch := omega) only [tS_1, tS_2, tA_1, tA_2, tF_1, tF_2, xl_0, xl_1, xl_2, Nat.reduceEqDiff, ↓reduceIte, nI_add, nI_1, nm_2, nm_3, nm_4, nm_6, nm_7, nm_8, nm_12, nm_16, nm_24, nm_40, nm_180, nm_300, nm_10210, na_0, na_2, na_3, na_4, na_5, na_6, na_7, na_8, nm_p, nm_m, nI_clamp]); exact rfl) dX8_acts_28 ?_
      refine x_istore hκ dX8_acts_29 (by rw [hL]; decide) rfl ?_
      refine x_iload hκ dX8_acts_31 rfl ?_
      refine x_iload_n hκ dX8_acts_33 rfl ?_
      refine x_icmp_eq (tgt := 95) hκ dX8_acts_34 (by decide) (fun c34 => ?_) (fun c34 => ?_)
      · -- X8_acts 34T
        have i34 := c34
        simp (disch := omega) only [i32_lt, i32_le, i32_eq, Int32.reduceToInt, nI_toInt] at i34
        refine x_goto (tgt := 147) hκ dX8_acts_95 (by decide) ?_
        refine t_retv hκ hr dX8_acts_147 ?_
        rw [actsS, if_neg (by simp only [i32_lt, Int32.reduceToInt]; omega), if_pos (by simp only [i32_lt, Int32.reduceToInt]; omega), if_neg (fun z => z.1 c34)]
      · -- X8_acts 34F
        have i34 := c34
        simp (disch := omega) only [i32_lt, i32_le, i32_eq, Int32.reduceToInt, nI_toInt] at i34
        refine x_iload hκ dX8_acts_37 rfl ?_
        refine x_iload hκ dX8_acts_39 rfl ?_
        refine x_ishr hκ dX8_acts_41 ?_
        refine x_iconst (v := 1) hκ dX8_acts_42 (by decide) ?_
        refine x_iand hκ dX8_acts_43 ?_
        refine x_if_ne (tgt := 95) hκ dX8_acts_44 (by decide) (fun c44 => ?_) (fun c44 => ?_)
        · -- X8_acts 44T
          have i44 := c44
          simp (disch := omega) only [i32_lt, i32_le, i32_eq, Int32.reduceToInt, nI_toInt] at i44
          refine x_goto (tgt := 147) hκ dX8_acts_95 (by decide) ?_
          refine t_retv hκ hr dX8_acts_147 ?_
          rw [actsS, if_neg (by simp only [i32_lt, Int32.reduceToInt]; omega), if_pos (by simp only [i32_lt, Int32.reduceToInt]; omega), if_neg (fun z => c44 z.2.1)]
        · -- X8_acts 44F
          have i44 := c44
          simp (disch := omega) only [i32_lt, i32_le, i32_eq, Int32.reduceToInt, nI_toInt] at i44
          refine x_aload_n hκ dX8_acts_47 rfl ?_
          refine t_get hκ fl8_50 (by decide) (by decide) rfl (by (try simp (disch := omega) only [tS_1, tS_2, tA_1, tA_2, tF_1, tF_2, xl_0, xl_1, xl_2, Nat.reduceEqDiff, ↓reduceIte, nI_add, nI_1, nm_2, nm_3, nm_4, nm_6, nm_7, nm_8, nm_12, nm_16, nm_24, nm_40, nm_180, nm_300, nm_10210, na_0, na_2, na_3, na_4, na_5, na_6, na_7, na_8, nm_p, nm_m, nI_clamp]); exact rfl) dX8_acts_48 ?_
          refine x_iload hκ dX8_acts_51 rfl ?_
          refine x_ishr hκ dX8_acts_53 ?_
          refine x_iconst (v := 1) hκ dX8_acts_54 (by decide) ?_
          refine x_iand hκ dX8_acts_55 ?_
          refine x_if_ne (tgt := 95) hκ dX8_acts_56 (by decide) (fun c56 => ?_) (fun c56 => ?_)
          · -- X8_acts 56T
            have i56 := c56
            simp (disch := omega) only [i32_lt, i32_le, i32_eq, Int32.reduceToInt, nI_toInt] at i56
            refine x_goto (tgt := 147) hκ dX8_acts_95 (by decide) ?_
            refine t_retv hκ hr dX8_acts_147 ?_
            rw [actsS, if_neg (by simp only [i32_lt, Int32.reduceToInt]; omega), if_pos (by simp only [i32_lt, Int32.reduceToInt]; omega), if_neg (fun z => c56 z.2.2)]
          · -- X8_acts 56F
            have i56 := c56
            simp (disch := omega) only [i32_lt, i32_le, i32_eq, Int32.reduceToInt, nI_toInt] at i56
            refine x_aload_n hκ dX8_acts_59 rfl ?_
            refine x_dup hκ dX8_acts_60 rfl ?_
            refine t_get hκ fl8_50 (by decide) (by decide) rfl (by (try simp (disch := omega) only [tS_1, tS_2, tA_1, tA_2, tF_1, tF_2, xl_0, xl_1, xl_2, Nat.reduceEqDiff, ↓reduceIte, nI_add, nI_1, nm_2, nm_3, nm_4, nm_6, nm_7, nm_8, nm_12, nm_16, nm_24, nm_40, nm_180, nm_300, nm_10210, na_0, na_2, na_3, na_4, na_5, na_6, na_7, na_8, nm_p, nm_m, nI_clamp]); exact rfl) dX8_acts_61 ?_
            refine x_iconst (v := 1) hκ dX8_acts_64 (by decide) ?_
            refine x_iload hκ dX8_acts_65 rfl ?_
            refine x_ishl hκ dX8_acts_67 ?_
            refine x_ior hκ dX8_acts_68 ?_
            refine t_put hκ fl8_50 (by decide) (by decide) rfl rfl rfl dX8_acts_69 ?_
            refine x_aload_n hκ dX8_acts_72 rfl ?_
            refine x_dup hκ dX8_acts_73 rfl ?_
            refine t_get hκ fl8_36 (by decide) (by decide) rfl (by (try simp (disch := omega) only [tS_1, tS_2, tA_1, tA_2, tF_1, tF_2, xl_0, xl_1, xl_2, Nat.reduceEqDiff, ↓reduceIte, nI_add, nI_1, nm_2, nm_3, nm_4, nm_6, nm_7, nm_8, nm_12, nm_16, nm_24, nm_40, nm_180, nm_300, nm_10210, na_0, na_2, na_3, na_4, na_5, na_6, na_7, na_8, nm_p, nm_m, nI_clamp]); exact rfl) dX8_acts_74 ?_
            refine x_iconst (v := 1) hκ dX8_acts_77 (by decide) ?_
            refine x_iaddN hκ (by (try simp (disch := omega) only [tS_1, tS_2, tA_1, tA_2, tF_1, tF_2, xl_0, xl_1, xl_2, Nat.reduceEqDiff, ↓reduceIte, nI_add, nI_1, nm_2, nm_3, nm_4, nm_6, nm_7, nm_8, nm_12, nm_16, nm_24, nm_40, nm_180, nm_300, nm_10210, na_0, na_2, na_3, na_4, na_5, na_6, na_7, na_8, nm_p, nm_m, nI_clamp]); exact rfl) dX8_acts_78 ?_
            refine t_put hκ fl8_36 (by decide) (by decide) rfl rfl rfl dX8_acts_79 ?_
            refine x_aload_n hκ dX8_acts_82 rfl ?_
            refine x_iload_n hκ dX8_acts_83 rfl ?_
            refine x_iload hκ dX8_acts_84 rfl ?_
            refine x_iload hκ dX8_acts_86 rfl ?_
            refine x_iconst (v := 1) hκ dX8_acts_88 (by decide) ?_
            refine x_iload_n hκ dX8_acts_89 rfl ?_
            refine x_ishl hκ dX8_acts_90 ?_
            refine x_ior hκ dX8_acts_91 ?_
            refine t_callv hκ (mX8_toCome hθ (n := n8) (by exact hn8) h8) (by omega) (by decide) wX8_243 aX8_toCome rfl (Nat.le_of_ble_eq_true rfl) dX8_acts_92 (fun σ92 h92 => ?_)
            subst h92
            refine x_goto (tgt := 147) hκ dX8_acts_95 (by decide) ?_
            refine t_retv hκ hr dX8_acts_147 ?_
            rw [actsS, if_neg (by simp only [i32_lt, Int32.reduceToInt]; omega), if_pos (by simp only [i32_lt, Int32.reduceToInt]; omega), if_pos ⟨c34, c44, c56⟩, g1]
  · -- X8_acts 2F
    have i2 := c2
    simp (disch := omega) only [i32_lt, i32_le, i32_eq, Int32.reduceToInt, nI_toInt] at i2
    refine x_aload_n hκ dX8_acts_5 rfl ?_
    refine x_dup hκ dX8_acts_6 rfl ?_
    refine t_get hκ fl8_49 (by decide) (by decide) rfl (by (try simp (disch := omega) only [tS_1, tS_2, tA_1, tA_2, tF_1, tF_2, xl_0, xl_1, xl_2, Nat.reduceEqDiff, ↓reduceIte, nI_add, nI_1, nm_2, nm_3, nm_4, nm_6, nm_7, nm_8, nm_12, nm_16, nm_24, nm_40, nm_180, nm_300, nm_10210, na_0, na_2, na_3, na_4, na_5, na_6, na_7, na_8, nm_p, nm_m, nI_clamp]); exact rfl) dX8_acts_7 ?_
    refine x_iconst (v := 1) hκ dX8_acts_10 (by decide) ?_
    refine x_iload_n hκ dX8_acts_11 rfl ?_
    refine x_ishl hκ dX8_acts_12 ?_
    refine x_ior hκ dX8_acts_13 ?_
    refine t_put hκ fl8_49 (by decide) (by decide) rfl rfl rfl dX8_acts_14 ?_
    refine x_goto (tgt := 147) hκ dX8_acts_17 (by decide) ?_
    refine t_retv hκ hr dX8_acts_147 ?_
    rw [actsS, if_pos (by simp only [i32_lt, Int32.reduceToInt]; omega)]
