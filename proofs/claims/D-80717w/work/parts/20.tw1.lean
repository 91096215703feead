theorem wX8_122 : GoodIn lw_all (va_wsS RX8 122 yX8_in (ws_ yX8_in cX8_in 3 (some .boolean))) := lw_S q1351 q1352 q82 q1353
theorem aX8_in : yX8_in.cls ≠ "java/lang/invoke/MethodHandle" ∧ yX8_in.cls ≠ "java/lang/invoke/VarHandle" ∧ (parseMethodDescriptor yX8_in.desc).map (fun d => d.parameters.length) = some 3 := by decide +kernel
theorem wX8_186 : GoodIn lw_all (va_wsS RX8 186 yX8_isBox (ws_ yX8_isBox cX8_isBox 1 (some .boolean))) := lw_S q1359 q1360 q82 q1361
theorem aX8_isBox : yX8_isBox.cls ≠ "java/lang/invoke/MethodHandle" ∧ yX8_isBox.cls ≠ "java/lang/invoke/VarHandle" ∧ (parseMethodDescriptor yX8_isBox.desc).map (fun d => d.parameters.length) = some 1 := by decide +kernel
theorem wX8_192 : GoodIn lw_all (va_wsS RX8 192 yX8_isTray (ws_ yX8_isTray cX8_isTray 1 (some .boolean))) := lw_S q1411 q1412 q82 q1413
theorem aX8_isTray : yX8_isTray.cls ≠ "java/lang/invoke/MethodHandle" ∧ yX8_isTray.cls ≠ "java/lang/invoke/VarHandle" ∧ (parseMethodDescriptor yX8_isTray.desc).map (fun d => d.parameters.length) = some 1 := by decide +kernel
/-! the reference: small tests -/
theorem mX8_in {E : gE} {v lo hi : Int32} : SMi E yX8_in cX8_in 3 .boolean 0 [.int v, .int lo, .int hi] (Tz (lo.toInt ≤ v.toInt ∧ v.toInt ≤ hi.toInt)) := by
  refine SMi.of (by decide) (Nat.le_of_ble_eq_true rfl) ?_
  rintro κ G rfl hL hκ hr
  refine x_iload_n hκ dX8_in_0 rfl ?_
  refine x_iload_n hκ dX8_in_1 rfl ?_
  refine x_icmp_lt (tgt := 14) hκ dX8_in_2 (by decide) (fun c2 => ?_) (fun c2 => ?_)
  · -- X8_in 2T
    have i2 := c2
    simp (disch := omega) only [i32_lt, i32_le, i32_eq, Int32.reduceToInt, nI_toInt] at i2
    refine x_iconst (v := 0) hκ dX8_in_14 (by decide) ?_
    refine s_retz hκ hr dX8_in_15 ?_ ?_
    · first | exact Or.inl rfl | exact Or.inr rfl | assumption
    first | exact Tz0 (by omega) | exact Tz1 (by omega) | done
  · -- X8_in 2F
    have i2 := c2
    simp (disch := omega) only [i32_lt, i32_le, i32_eq, Int32.reduceToInt, nI_toInt] at i2
    refine x_iload_n hκ dX8_in_5 rfl ?_
    refine x_iload_n hκ dX8_in_6 rfl ?_
    refine x_icmp_gt (tgt := 14) hκ dX8_in_7 (by decide) (fun c7 => ?_) (fun c7 => ?_)
    · -- X8_in 7T
      have i7 := c7
      simp (disch := omega) only [i32_lt, i32_le, i32_eq, Int32.reduceToInt, nI_toInt] at i7
      refine x_iconst (v := 0) hκ dX8_in_14 (by decide) ?_
      refine s_retz hκ hr dX8_in_15 ?_ ?_
      · first | exact Or.inl rfl | exact Or.inr rfl | assumption
      first | exact Tz0 (by omega) | exact Tz1 (by omega) | done
    · -- X8_in 7F
      have i7 := c7
      simp (disch := omega) only [i32_lt, i32_le, i32_eq, Int32.reduceToInt, nI_toInt] at i7
      refine x_iconst (v := 1) hκ dX8_in_10 (by decide) ?_
      refine x_goto (tgt := 15) hκ dX8_in_11 (by decide) ?_
      refine s_retz hκ hr dX8_in_15 ?_ ?_
      · first | exact Or.inl rfl | exact Or.inr rfl | assumption
      first | exact Tz0 (by omega) | exact Tz1 (by omega) | done
theorem mX8_isBox {E : gE} {v : Int32} : SMi E yX8_isBox cX8_isBox 1 .boolean 1 [.int v] (Tz (0 ≤ v.toInt ∧ v.toInt ≤ 2)) := by
  refine SMi.of (by decide) (Nat.le_of_ble_eq_true rfl) ?_
  rintro κ G rfl hL hκ hr
  refine x_iload_n hκ dX8_isBox_0 rfl ?_
  refine x_iconst (v := 0) hκ dX8_isBox_1 (by decide) ?_
  refine x_iconst (v := 2) hκ dX8_isBox_2 (by decide) ?_
  refine x_callSi hκ mX8_in (by omega) (by decide) wX8_122 aX8_in rfl (Nat.le_of_ble_eq_true rfl) dX8_isBox_3 (fun r3 h3 => ?_)
  refine s_retz hκ hr dX8_isBox_6 ?_ ?_
  · exact h3.b
  exact h3
theorem mX8_isTray {E : gE} {v : Int32} : SMi E yX8_isTray cX8_isTray 1 .boolean 1 [.int v] (Tz (0 ≤ v.toInt ∧ v.toInt ≤ 3)) := by
  refine SMi.of (by decide) (Nat.le_of_ble_eq_true rfl) ?_
  rintro κ G rfl hL hκ hr
  refine x_iload_n hκ dX8_isTray_0 rfl ?_
  refine x_iconst (v := 0) hκ dX8_isTray_1 (by decide) ?_
  refine x_iconst (v := 3) hκ dX8_isTray_2 (by decide) ?_
  refine x_callSi hκ mX8_in (by omega) (by decide) wX8_122 aX8_in rfl (Nat.le_of_ble_eq_true rfl) dX8_isTray_3 (fun r3 h3 => ?_)
  refine s_retz hκ hr dX8_isTray_6 ?_ ?_
  · exact h3.b
  exact h3
theorem mX8_isSheet {E : gE} {v : Int32} : SMi E yX8_isSheet cX8_isSheet 1 .boolean 1 [.int v] (Tz (0 ≤ v.toInt ∧ v.toInt ≤ 1)) := by
  refine SMi.of (by decide) (Nat.le_of_ble_eq_true rfl) ?_
  rintro κ G rfl hL hκ hr
  refine x_iload_n hκ dX8_isSheet_0 rfl ?_
  refine x_iconst (v := 0) hκ dX8_isSheet_1 (by decide) ?_
  refine x_iconst (v := 1) hκ dX8_isSheet_2 (by decide) ?_
  refine x_callSi hκ mX8_in (by omega) (by decide) wX8_122 aX8_in rfl (Nat.le_of_ble_eq_true rfl) dX8_isSheet_3 (fun r3 h3 => ?_)
  refine s_retz hκ hr dX8_isSheet_6 ?_ ?_
  · exact h3.b
  exact h3
theorem mX8_isPlace {E : gE} {b t : Int32} : SMi E yX8_isPlace cX8_isPlace 2 .boolean 2 [.int b, .int t] (Tz ((0 ≤ b.toInt ∧ b.toInt ≤ 2) ∧ 0 ≤ t.toInt ∧ t.toInt ≤ 3)) := by
  refine SMi.of (by decide) (Nat.le_of_ble_eq_true rfl) ?_
  rintro κ G rfl hL hκ hr
  refine x_iload_n hκ dX8_isPlace_0 rfl ?_
  refine x_callSi hκ mX8_isBox (by omega) (by decide) wX8_186 aX8_isBox rfl (Nat.le_of_ble_eq_true rfl) dX8_isPlace_1 (fun r1 h1 => ?_)
  refine x_if_eq (tgt := 18) hκ dX8_isPlace_4 (by decide) (fun c4 => ?_) (fun c4 => ?_)
  · -- X8_isPlace 4T
    have i4 := h1.f c4
    try simp only [Int32.reduceToInt] at i4
    refine x_iconst (v := 0) hκ dX8_isPlace_18 (by decide) ?_
    refine s_retz hκ hr dX8_isPlace_19 ?_ ?_
    · first | exact Or.inl rfl | exact Or.inr rfl | assumption
    first | exact Tz0 (by omega) | exact Tz1 (by omega) | done
  · -- X8_isPlace 4F
    have i4 := h1.t c4
    try simp only [Int32.reduceToInt] at i4
    refine x_iload_n hκ dX8_isPlace_7 rfl ?_
    refine x_callSi hκ mX8_isTray (by omega) (by decide) wX8_192 aX8_isTray rfl (Nat.le_of_ble_eq_true rfl) dX8_isPlace_8 (fun r8 h8 => ?_)
    refine x_if_eq (tgt := 18) hκ dX8_isPlace_11 (by decide) (fun c11 => ?_) (fun c11 => ?_)
    · -- X8_isPlace 11T
      have i11 := h8.f c11
      try simp only [Int32.reduceToInt] at i11
      refine x_iconst (v := 0) hκ dX8_isPlace_18 (by decide) ?_
      refine s_retz hκ hr dX8_isPlace_19 ?_ ?_
      · first | exact Or.inl rfl | exact Or.inr rfl | assumption
      first | exact Tz0 (by omega) | exact Tz1 (by omega) | done
    · -- X8_isPlace 11F
      have i11 := h8.t c11
      try simp only [Int32.reduceToInt] at i11
      refine x_iconst (v := 1) hκ dX8_isPlace_14 (by decide) ?_
      refine x_goto (tgt := 19) hκ dX8_isPlace_15 (by decide) ?_
      refine s_retz hκ hr dX8_isPlace_19 ?_ ?_
      · first | exact Or.inl rfl | exact Or.inr rfl | assumption
      first | exact Tz0 (by omega) | exact Tz1 (by omega) | done
theorem mX8_quota {E : gE} {θ : TA} (hθ : tOk θ) {σ : TS} {b t n : Int32} : TMi E θ σ yX8_quota cX8_quota 5 .int 2 [.int b, .int t, .int n] (fun r σ' =>
    if (0 ≤ b.toInt ∧ b.toInt ≤ 2) ∧ (0 ≤ t.toInt ∧ t.toInt ≤ 3) ∧ 0 ≤ n.toInt ∧ n.toInt ≤ 99 then r = σ.2 7 (4 * b + t).toNatClampNeg ∧ σ' = tA σ 7 (4 * b + t).toNatClampNeg n else r = -1 ∧ σ' = σ) := by
  refine TMi.of (by decide) (Nat.le_of_ble_eq_true rfl) ?_
  rintro κ rfl hL hκ hr
  refine x_iload_n hκ dX8_quota_0 rfl ?_
  refine x_callSi hκ mX8_isBox (by omega) (by decide) wX8_186 aX8_isBox rfl (Nat.le_of_ble_eq_true rfl) dX8_quota_1 (fun r1 h1 => ?_)
  refine x_if_eq (tgt := 24) hκ dX8_quota_4 (by decide) (fun c4 => ?_) (fun c4 => ?_)
  · -- X8_quota 4T
    have i4 := h1.f c4
    try simp only [Int32.reduceToInt] at i4
    refine x_iconst (v := (-1)) hκ dX8_quota_24 (by decide) ?_
    refine t_reti hκ hr rfl dX8_quota_25 ?_
    first | (rw [if_neg (by omega)]; exact ⟨rfl, rfl⟩) | (rw [if_pos (by omega)]; exact ⟨rfl, rfl⟩) | done
  · -- X8_quota 4F
    have i4 := h1.t c4
    try simp only [Int32.reduceToInt] at i4
    refine x_iload_n hκ dX8_quota_7 rfl ?_
    refine x_callSi hκ mX8_isTray (by omega) (by decide) wX8_192 aX8_isTray rfl (Nat.le_of_ble_eq_true rfl) dX8_quota_8 (fun r8 h8 => ?_)
    refine x_if_eq (tgt := 24) hκ dX8_quota_11 (by decide) (fun c11 => ?_) (fun c11 => ?_)
    · -- X8_quota 11T
      have i11 := h8.f c11
      try simp only [Int32.reduceToInt] at i11
      refine x_iconst (v := (-1)) hκ dX8_quota_24 (by decide) ?_
      refine t_reti hκ hr rfl dX8_quota_25 ?_
      first | (rw [if_neg (by omega)]; exact ⟨rfl, rfl⟩) | (rw [if_pos (by omega)]; exact ⟨rfl, rfl⟩) | done
    · -- X8_quota 11F
      have i11 := h8.t c11
      try simp only [Int32.reduceToInt] at i11
      refine x_iload_n hκ dX8_quota_14 rfl ?_
      refine x_iconst (v := 0) hκ dX8_quota_15 (by decide) ?_
      refine x_bipush (v := 99) hκ dX8_quota_16 (by decide) ?_
      refine x_callSi hκ mX8_in (by omega) (by decide) wX8_122 aX8_in rfl (Nat.le_of_ble_eq_true rfl) dX8_quota_18 (fun r18 h18 => ?_)
      refine x_if_ne (tgt := 26) hκ dX8_quota_21 (by decide) (fun c21 => ?_) (fun c21 => ?_)
      · -- X8_quota 21T
        have i21 := h18.t c21
        try simp only [Int32.reduceToInt] at i21
        refine x_aload_n hκ dX8_quota_26 rfl ?_
        refine t_getA hκ fl8_7 (by decide) (by decide) rfl dX8_quota_27 ?_
        refine x_iconst (v := 4) hκ dX8_quota_30 (by decide) ?_
        refine x_iload_n hκ dX8_quota_31 rfl ?_
        refine x_imulN hκ (by (try simp (disch := omega) only [tS_1, tS_2, tA_1, tA_2, tF_1, tF_2, xl_0, xl_1, xl_2, Nat.reduceEqDiff, ↓reduceIte, nI_add, nI_1, nm_2, nm_3, nm_4, nm_6, nm_7, nm_8, nm_12, nm_16, nm_24, nm_40, nm_180, nm_300, nm_10210, na_0, na_2, na_3, na_4, na_5, na_6, na_7, na_8, nm_p, nm_m, nI_clamp]); exact rfl) dX8_quota_32 ?_
        refine x_iload_n hκ dX8_quota_33 rfl ?_
        refine x_iaddN hκ (by (try simp (disch := omega) only [tS_1, tS_2, tA_1, tA_2, tF_1, tF_2, xl_0, xl_1, xl_2, Nat.reduceEqDiff, ↓reduceIte, nI_add, nI_1, nm_2, nm_3, nm_4, nm_6, nm_7, nm_8, nm_12, nm_16, nm_24, nm_40, nm_180, nm_300, nm_10210, na_0, na_2, na_3, na_4, na_5, na_6, na_7, na_8, nm_p, nm_m, nI_clamp]); exact rfl) dX8_quota_34 ?_
        refine t_iald (n := 12) hκ hθ (by decide) rfl rfl (by first | ((with_reducible refine vp_in_nI ?_ ?_) <;> omega) | exact i32_in (by omega) (by omega) | exact i32_in' (by simp only [Int32.toInt_add, Int32.toInt_mul, Int32.toInt_sub, Int32.reduceToInt, Int.bmod_add_bmod, Int.bmod_sub_bmod, Int.add_bmod_bmod, Int.sub_bmod_bmod, Int.bmod_mul_bmod, Int.mul_bmod_bmod]; exact i32_bm (by omega) (by omega)) (by omega) (by omega) | exact i32_in (by decide) (by decide)) (by (try simp (disch := omega) only [tS_1, tS_2, tA_1, tA_2, tF_1, tF_2, xl_0, xl_1, xl_2, Nat.reduceEqDiff, ↓reduceIte, nI_add, nI_1, nm_2, nm_3, nm_4, nm_6, nm_7, nm_8, nm_12, nm_16, nm_24, nm_40, nm_180, nm_300, nm_10210, na_0, na_2, na_3, na_4, na_5, na_6, na_7, na_8, nm_p, nm_m, nI_clamp]); exact rfl) dX8_quota_35 ?_
        refine x_istore hκ dX8_quota_36 (by rw [hL]; decide) rfl ?_
        refine x_aload_n hκ dX8_quota_38 rfl ?_
        refine t_getA hκ fl8_7 (by decide) (by decide) rfl dX8_quota_39 ?_
        refine x_iconst (v := 4) hκ dX8_quota_42 (by decide) ?_
        refine x_iload_n hκ dX8_quota_43 rfl ?_
        refine x_imulN hκ (by (try simp (disch := omega) only [tS_1, tS_2, tA_1, tA_2, tF_1, tF_2, xl_0, xl_1, xl_2, Nat.reduceEqDiff, ↓reduceIte, nI_add, nI_1, nm_2, nm_3, nm_4, nm_6, nm_7, nm_8, nm_12, nm_16, nm_24, nm_40, nm_180, nm_300, nm_10210, na_0, na_2, na_3, na_4, na_5, na_6, na_7, na_8, nm_p, nm_m, nI_clamp]); exact rfl) dX8_quota_44 ?_
        refine x_iload_n hκ dX8_quota_45 rfl ?_
        refine x_iaddN hκ (by (try simp (disch := omega) only [tS_1, tS_2, tA_1, tA_2, tF_1, tF_2, xl_0, xl_1, xl_2, Nat.reduceEqDiff, ↓reduceIte, nI_add, nI_1, nm_2, nm_3, nm_4, nm_6, nm_7, nm_8, nm_12, nm_16, nm_24, nm_40, nm_180, nm_300, nm_10210, na_0, na_2, na_3, na_4, na_5, na_6, na_7, na_8, nm_p, nm_m, nI_clamp]); exact rfl) dX8_quota_46 ?_
        refine x_iload_n hκ dX8_quota_47 rfl ?_
        refine t_iast (n := 12) hκ hθ (by decide) rfl rfl (by first | ((with_reducible refine vp_in_nI ?_ ?_) <;> omega) | exact i32_in (by omega) (by omega) | exact i32_in' (by simp only [Int32.toInt_add, Int32.toInt_mul, Int32.toInt_sub, Int32.reduceToInt, Int.bmod_add_bmod, Int.bmod_sub_bmod, Int.add_bmod_bmod, Int.sub_bmod_bmod, Int.bmod_mul_bmod, Int.mul_bmod_bmod]; exact i32_bm (by omega) (by omega)) (by omega) (by omega) | exact i32_in (by decide) (by decide)) (by (try simp (disch := omega) only [tS_1, tS_2, tA_1, tA_2, tF_1, tF_2, xl_0, xl_1, xl_2, Nat.reduceEqDiff, ↓reduceIte, nI_add, nI_1, nm_2, nm_3, nm_4, nm_6, nm_7, nm_8, nm_12, nm_16, nm_24, nm_40, nm_180, nm_300, nm_10210, na_0, na_2, na_3, na_4, na_5, na_6, na_7, na_8, nm_p, nm_m, nI_clamp]); exact rfl) dX8_quota_48 ?_
        refine x_iload hκ dX8_quota_49 rfl ?_
        refine t_reti hκ hr rfl dX8_quota_51 ?_
        first | (rw [if_neg (by omega)]; exact ⟨rfl, rfl⟩) | (rw [if_pos (by omega)]; exact ⟨rfl, rfl⟩) | done
      · -- X8_quota 21F
        have i21 := h18.f c21
        try simp only [Int32.reduceToInt] at i21
        refine x_iconst (v := (-1)) hκ dX8_quota_24 (by decide) ?_
        refine t_reti hκ hr rfl dX8_quota_25 ?_
        first | (rw [if_neg (by omega)]; exact ⟨rfl, rfl⟩) | (rw [if_pos (by omega)]; exact ⟨rfl, rfl⟩) | done
theorem mX8_days {E : gE} {θ : TA} (hθ : tOk θ) {σ : TS} {b n : Int32} : TMi E θ σ yX8_days cX8_days 4 .int 2 [.int b, .int n] (fun r σ' =>
    if (0 ≤ b.toInt ∧ b.toInt ≤ 2) ∧ 1 ≤ n.toInt ∧ n.toInt ≤ 99 then r = σ.2 8 b.toNatClampNeg ∧ σ' = tA σ 8 b.toNatClampNeg n else r = -1 ∧ σ' = σ) := by
  refine TMi.of (by decide) (Nat.le_of_ble_eq_true rfl) ?_
  rintro κ rfl hL hκ hr
  refine x_iload_n hκ dX8_days_0 rfl ?_
  refine x_callSi hκ mX8_isBox (by omega) (by decide) wX8_186 aX8_isBox rfl (Nat.le_of_ble_eq_true rfl) dX8_days_1 (fun r1 h1 => ?_)
  refine x_if_eq (tgt := 17) hκ dX8_days_4 (by decide) (fun c4 => ?_) (fun c4 => ?_)
  · -- X8_days 4T
    have i4 := h1.f c4
    try simp only [Int32.reduceToInt] at i4
    refine x_iconst (v := (-1)) hκ dX8_days_17 (by decide) ?_
    refine t_reti hκ hr rfl dX8_days_18 ?_
    first | (rw [if_neg (by omega)]; exact ⟨rfl, rfl⟩) | (rw [if_pos (by omega)]; exact ⟨rfl, rfl⟩) | done
  · -- X8_days 4F
    have i4 := h1.t c4
    try simp only [Int32.reduceToInt] at i4
    refine x_iload_n hκ dX8_days_7 rfl ?_
    refine x_iconst (v := 1) hκ dX8_days_8 (by decide) ?_
    refine x_bipush (v := 99) hκ dX8_days_9 (by decide) ?_
    refine x_callSi hκ mX8_in (by omega) (by decide) wX8_122 aX8_in rfl (Nat.le_of_ble_eq_true rfl) dX8_days_11 (fun r11 h11 => ?_)
    refine x_if_ne (tgt := 19) hκ dX8_days_14 (by decide) (fun c14 => ?_) (fun c14 => ?_)
    · -- X8_days 14T
      have i14 := h11.t c14
      try simp only [Int32.reduceToInt] at i14
      refine x_aload_n hκ dX8_days_19 rfl ?_
      refine t_getA hκ fl8_8 (by decide) (by decide) rfl dX8_days_20 ?_
      refine x_iload_n hκ dX8_days_23 rfl ?_
      refine t_iald (n := 3) hκ hθ (by decide) rfl rfl (by first | ((with_reducible refine vp_in_nI ?_ ?_) <;> omega) | exact i32_in (by omega) (by omega) | exact i32_in' (by simp only [Int32.toInt_add, Int32.toInt_mul, Int32.toInt_sub, Int32.reduceToInt, Int.bmod_add_bmod, Int.bmod_sub_bmod, Int.add_bmod_bmod, Int.sub_bmod_bmod, Int.bmod_mul_bmod, Int.mul_bmod_bmod]; exact i32_bm (by omega) (by omega)) (by omega) (by omega) | exact i32_in (by decide) (by decide)) (by (try simp (disch := omega) only [tS_1, tS_2, tA_1, tA_2, tF_1, tF_2, xl_0, xl_1, xl_2, Nat.reduceEqDiff, ↓reduceIte, nI_add, nI_1, nm_2, nm_3, nm_4, nm_6, nm_7, nm_8, nm_12, nm_16, nm_24, nm_40, nm_180, nm_300, nm_10210, na_0, na_2, na_3, na_4, na_5, na_6, na_7, na_8, nm_p, nm_m, nI_clamp]); exact rfl) dX8_days_24 ?_
      refine x_istore_n hκ dX8_days_25 (by rw [hL]; decide) rfl ?_
      refine x_aload_n hκ dX8_days_26 rfl ?_
      refine t_getA hκ fl8_8 (by decide) (by decide) rfl dX8_days_27 ?_
      refine x_iload_n hκ dX8_days_30 rfl ?_
      refine x_iload_n hκ dX8_days_31 rfl ?_
      refine t_iast (n := 3) hκ hθ (by decide) rfl rfl (by first | ((with_reducible refine vp_in_nI ?_ ?_) <;> omega) | exact i32_in (by omega) (by omega) | exact i32_in' (by simp only [Int32.toInt_add, Int32.toInt_mul, Int32.toInt_sub, Int32.reduceToInt, Int.bmod_add_bmod, Int.bmod_sub_bmod, Int.add_bmod_bmod, Int.sub_bmod_bmod, Int.bmod_mul_bmod, Int.mul_bmod_bmod]; exact i32_bm (by omega) (by omega)) (by omega) (by omega) | exact i32_in (by decide) (by decide)) (by (try simp (disch := omega) only [tS_1, tS_2, tA_1, tA_2, tF_1, tF_2, xl_0, xl_1, xl_2, Nat.reduceEqDiff, ↓reduceIte, nI_add, nI_1, nm_2, nm_3, nm_4, nm_6, nm_7, nm_8, nm_12, nm_16, nm_24, nm_40, nm_180, nm_300, nm_10210, na_0, na_2, na_3, na_4, na_5, na_6, na_7, na_8, nm_p, nm_m, nI_clamp]); exact rfl) dX8_days_32 ?_
      refine x_iload_n hκ dX8_days_33 rfl ?_
      refine t_reti hκ hr rfl dX8_days_34 ?_
      first | (rw [if_neg (by omega)]; exact ⟨rfl, rfl⟩) | (rw [if_pos (by omega)]; exact ⟨rfl, rfl⟩) | done
    · -- X8_days 14F
      have i14 := h11.f c14
      try simp only [Int32.reduceToInt] at i14
      refine x_iconst (v := (-1)) hκ dX8_days_17 (by decide) ?_
      refine t_reti hκ hr rfl dX8_days_18 ?_
      first | (rw [if_neg (by omega)]; exact ⟨rfl, rfl⟩) | (rw [if_pos (by omega)]; exact ⟨rfl, rfl⟩) | done
