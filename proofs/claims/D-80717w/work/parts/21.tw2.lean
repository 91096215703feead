theorem wX8_285 : GoodIn lw_all (wsV RX8 285 RX8 yX8_copies (ws_ yX8_copies cX8_copies 3 (some .int))) := lw_V q1437 q1439 qs45 q82 q1440
theorem aX8_copies : yX8_copies.cls = RX8 ∧ yX8_copies.cls ≠ "java/lang/invoke/MethodHandle" ∧ yX8_copies.cls ≠ "java/lang/invoke/VarHandle" ∧ (parseMethodDescriptor yX8_copies.desc).map (fun d => d.parameters.length) = some 0 := by decide +kernel
theorem wX8_308 : GoodIn lw_all (va_wsS RX8 308 yX8_isPlace (ws_ yX8_isPlace cX8_isPlace 2 (some .boolean))) := lw_S q1522 q1523 q82 q1524
theorem aX8_isPlace : yX8_isPlace.cls ≠ "java/lang/invoke/MethodHandle" ∧ yX8_isPlace.cls ≠ "java/lang/invoke/VarHandle" ∧ (parseMethodDescriptor yX8_isPlace.desc).map (fun d => d.parameters.length) = some 2 := by decide +kernel
/-! the reference: what is told -/
theorem ix_4 {b t : Int32} (hb : 0 ≤ b.toInt ∧ b.toInt ≤ 2) (ht : 0 ≤ t.toInt ∧ t.toInt ≤ 3) : (4 * b + t).toInt = 4 * b.toInt + t.toInt := by
  simp only [Int32.toInt_add, Int32.toInt_mul, Int32.reduceToInt, Int.bmod_add_bmod]
  exact i32_bm (by omega) (by omega)
/-- each tray has 0 .. 299 copies -/
def TIt (σ : TS) : Prop := ∀ t : Nat, t < 12 → 0 ≤ (σ.2 40 t).toInt ∧ (σ.2 40 t).toInt ≤ 299
theorem mX8_copies {E : gE} {θ : TA} (hθ : tOk θ) {σ : TS} : TMi E θ σ yX8_copies cX8_copies 3 .int 0 [] (fun r σ' => r = l_sum (σ.2 40) 12 ∧ σ' = σ) := by
  refine TMi.of (by decide) (Nat.le_of_ble_eq_true rfl) ?_
  rintro κ rfl hL hκ hr
  have loop : ∀ (k i : Nat), i ≤ 12 → 12 - i < k → X κ (tG (kE κ) θ σ) 0 0 4 [some (.ref θ.1), some (.int (l_sum (σ.2 40) i)), some (.int (nI i))] [] := by
    intro k
    induction k with
    | zero => intro i h1 h2; exact absurd h2 (Nat.not_lt_zero _)
    | succ k ih =>
      intro i hi hk
      have hn := nI_toInt (n := i) (by omega)
      refine x_iload_n hκ dX8_copies_4 rfl ?_
      refine x_bipush (v := 12) hκ dX8_copies_5 (by decide) ?_
      refine x_icmp_ge (tgt := 25) hκ dX8_copies_7 (by decide) (fun c7 => ?_) (fun c7 => ?_)
      · -- X8_copies 7T
        have i7 := c7
        simp (disch := omega) only [i32_lt, i32_le, i32_eq, Int32.reduceToInt, nI_toInt] at i7
        refine x_iload_n hκ dX8_copies_25 rfl ?_
        refine t_reti hκ hr rfl dX8_copies_26 ?_
        obtain rfl : i = 12 := by omega
        exact ⟨rfl, rfl⟩
      · -- X8_copies 7F
        have i7 := c7
        simp (disch := omega) only [i32_lt, i32_le, i32_eq, Int32.reduceToInt, nI_toInt] at i7
        refine x_iload_n hκ dX8_copies_10 rfl ?_
        refine x_aload_n hκ dX8_copies_11 rfl ?_
        refine t_getA hκ fl8_40 (by decide) (by decide) rfl dX8_copies_12 ?_
        refine x_iload_n hκ dX8_copies_15 rfl ?_
        refine t_iald (n := 12) hκ hθ (by decide) rfl rfl (by first | ((with_reducible refine vp_in_nI ?_ ?_) <;> omega) | exact i32_in (by omega) (by omega) | exact i32_in' (by simp only [Int32.toInt_add, Int32.toInt_mul, Int32.toInt_sub, Int32.reduceToInt, Int.bmod_add_bmod, Int.bmod_sub_bmod, Int.add_bmod_bmod, Int.sub_bmod_bmod, Int.bmod_mul_bmod, Int.mul_bmod_bmod]; exact i32_bm (by omega) (by omega)) (by omega) (by omega) | exact i32_in (by decide) (by decide)) (by (try simp (disch := omega) only [tS_1, tS_2, tA_1, tA_2, tF_1, tF_2, xl_0, xl_1, xl_2, Nat.reduceEqDiff, ↓reduceIte, nI_add, nI_1, nm_2, nm_3, nm_4, nm_6, nm_7, nm_8, nm_12, nm_16, nm_24, nm_40, nm_180, nm_300, nm_10210, na_0, na_2, na_3, na_4, na_5, na_6, na_7, na_8, nm_p, nm_m, nI_clamp]); exact rfl) dX8_copies_16 ?_
        refine x_iaddN hκ (by (try simp (disch := omega) only [tS_1, tS_2, tA_1, tA_2, tF_1, tF_2, xl_0, xl_1, xl_2, Nat.reduceEqDiff, ↓reduceIte, nI_add, nI_1, nm_2, nm_3, nm_4, nm_6, nm_7, nm_8, nm_12, nm_16, nm_24, nm_40, nm_180, nm_300, nm_10210, na_0, na_2, na_3, na_4, na_5, na_6, na_7, na_8, nm_p, nm_m, nI_clamp]); exact rfl) dX8_copies_17 ?_
        refine x_istore_n hκ dX8_copies_18 (by rw [hL]; decide) rfl ?_
        refine x_iincN (y := 1) hκ dX8_copies_19 (by decide) rfl (by rw [hL]; decide) rfl (by (try simp (disch := omega) only [tS_1, tS_2, tA_1, tA_2, tF_1, tF_2, xl_0, xl_1, xl_2, Nat.reduceEqDiff, ↓reduceIte, nI_add, nI_1, nm_2, nm_3, nm_4, nm_6, nm_7, nm_8, nm_12, nm_16, nm_24, nm_40, nm_180, nm_300, nm_10210, na_0, na_2, na_3, na_4, na_5, na_6, na_7, na_8, nm_p, nm_m, nI_clamp]); exact rfl) ?_
        refine x_goto (tgt := 4) hκ dX8_copies_22 (by decide) ?_
        exact ih (i + 1) (by omega) (by omega)
  refine x_iconst (v := 0) hκ dX8_copies_0 (by decide) ?_
  refine x_istore_n hκ dX8_copies_1 (by rw [hL]; decide) rfl ?_
  refine x_iconst (v := 0) hκ dX8_copies_2 (by decide) ?_
  refine x_istore_n hκ dX8_copies_3 (by rw [hL]; decide) rfl ?_
  exact loop 13 0 (by omega) (by omega)
theorem mX8_latest {E : gE} {θ : TA} (hθ : tOk θ) {σ : TS} (hl : 0 ≤ (σ.1 25).toInt ∧ (σ.1 25).toInt ≤ 209) : TMi E θ σ yX8_latest cX8_latest 1 .int 0 [] (fun r σ' => r = (if (σ.1 25).toInt = 0 then 0 else σ.2 33 (Int32.toNatClampNeg (σ.1 25 - 1))) ∧ σ' = σ) := by
  refine TMi.of (by decide) (Nat.le_of_ble_eq_true rfl) ?_
  rintro κ rfl hL hκ hr
  refine x_aload_n hκ dX8_latest_0 rfl ?_
  refine t_get hκ fl8_25 (by decide) (by decide) rfl (by (try simp (disch := omega) only [tS_1, tS_2, tA_1, tA_2, tF_1, tF_2, xl_0, xl_1, xl_2, Nat.reduceEqDiff, ↓reduceIte, nI_add, nI_1, nm_2, nm_3, nm_4, nm_6, nm_7, nm_8, nm_12, nm_16, nm_24, nm_40, nm_180, nm_300, nm_10210, na_0, na_2, na_3, na_4, na_5, na_6, na_7, na_8, nm_p, nm_m, nI_clamp]); exact rfl) dX8_latest_1 ?_
  refine x_if_ne (tgt := 11) hκ dX8_latest_4 (by decide) (fun c4 => ?_) (fun c4 => ?_)
  · -- X8_latest 4T
    have i4 := c4
    simp (disch := omega) only [i32_lt, i32_le, i32_eq, Int32.reduceToInt, nI_toInt] at i4
    refine x_aload_n hκ dX8_latest_11 rfl ?_
    refine t_getA hκ fl8_33 (by decide) (by decide) rfl dX8_latest_12 ?_
    refine x_aload_n hκ dX8_latest_15 rfl ?_
    refine t_get hκ fl8_25 (by decide) (by decide) rfl (by (try simp (disch := omega) only [tS_1, tS_2, tA_1, tA_2, tF_1, tF_2, xl_0, xl_1, xl_2, Nat.reduceEqDiff, ↓reduceIte, nI_add, nI_1, nm_2, nm_3, nm_4, nm_6, nm_7, nm_8, nm_12, nm_16, nm_24, nm_40, nm_180, nm_300, nm_10210, na_0, na_2, na_3, na_4, na_5, na_6, na_7, na_8, nm_p, nm_m, nI_clamp]); exact rfl) dX8_latest_16 ?_
    refine x_iconst (v := 1) hκ dX8_latest_19 (by decide) ?_
    refine x_isubN hκ (by (try simp (disch := omega) only [tS_1, tS_2, tA_1, tA_2, tF_1, tF_2, xl_0, xl_1, xl_2, Nat.reduceEqDiff, ↓reduceIte, nI_add, nI_1, nm_2, nm_3, nm_4, nm_6, nm_7, nm_8, nm_12, nm_16, nm_24, nm_40, nm_180, nm_300, nm_10210, na_0, na_2, na_3, na_4, na_5, na_6, na_7, na_8, nm_p, nm_m, nI_clamp]); exact rfl) dX8_latest_20 ?_
    refine t_iald (n := 210) hκ hθ (by decide) rfl rfl (by first | ((with_reducible refine vp_in_nI ?_ ?_) <;> omega) | exact i32_in (by omega) (by omega) | exact i32_in' (by simp only [Int32.toInt_add, Int32.toInt_mul, Int32.toInt_sub, Int32.reduceToInt, Int.bmod_add_bmod, Int.bmod_sub_bmod, Int.add_bmod_bmod, Int.sub_bmod_bmod, Int.bmod_mul_bmod, Int.mul_bmod_bmod]; exact i32_bm (by omega) (by omega)) (by omega) (by omega) | exact i32_in (by decide) (by decide)) (by (try simp (disch := omega) only [tS_1, tS_2, tA_1, tA_2, tF_1, tF_2, xl_0, xl_1, xl_2, Nat.reduceEqDiff, ↓reduceIte, nI_add, nI_1, nm_2, nm_3, nm_4, nm_6, nm_7, nm_8, nm_12, nm_16, nm_24, nm_40, nm_180, nm_300, nm_10210, na_0, na_2, na_3, na_4, na_5, na_6, na_7, na_8, nm_p, nm_m, nI_clamp]); exact rfl) dX8_latest_21 ?_
    refine t_reti hκ hr rfl dX8_latest_22 ?_
    first | (rw [if_neg (by omega)]; exact ⟨rfl, rfl⟩) | (rw [if_pos (by omega)]; exact ⟨rfl, rfl⟩)
  · -- X8_latest 4F
    have i4 := c4
    simp (disch := omega) only [i32_lt, i32_le, i32_eq, Int32.reduceToInt, nI_toInt] at i4
    refine x_iconst (v := 0) hκ dX8_latest_7 (by decide) ?_
    refine x_goto (tgt := 22) hκ dX8_latest_8 (by decide) ?_
    refine t_reti hκ hr rfl dX8_latest_22 ?_
    first | (rw [if_neg (by omega)]; exact ⟨rfl, rfl⟩) | (rw [if_pos (by omega)]; exact ⟨rfl, rfl⟩)
theorem mX8_isFull {E : gE} {θ : TA} (hθ : tOk θ) {σ : TS} : TMi E θ σ yX8_isFull cX8_isFull 1 .boolean 1 [] (fun r σ' => Tz (180 < (l_sum (σ.2 40) 12).toInt ∨ 190 < (σ.1 25).toInt) r ∧ σ' = σ) := by
  refine TMi.of (by decide) (Nat.le_of_ble_eq_true rfl) ?_
  rintro κ rfl hL hκ hr
  refine x_aload_n hκ dX8_isFull_0 rfl ?_
  refine t_callR hκ (mX8_copies hθ) (by omega) (by decide) wX8_285 aX8_copies rfl (Nat.le_of_ble_eq_true rfl) dX8_isFull_1 (fun r1 h1 => ?_)
  subst h1
  refine x_sipush (v := 180) hκ dX8_isFull_4 (by decide) ?_
  refine x_icmp_gt (tgt := 20) hκ dX8_isFull_7 (by decide) (fun c7 => ?_) (fun c7 => ?_)
  · -- X8_isFull 7T
    have i7 := c7
    simp (disch := omega) only [i32_lt, i32_le, i32_eq, Int32.reduceToInt, nI_toInt] at i7
    refine x_iconst (v := 1) hκ dX8_isFull_20 (by decide) ?_
    refine x_goto (tgt := 25) hκ dX8_isFull_21 (by decide) ?_
    refine t_retz hκ hr rfl dX8_isFull_25 (by first | exact Or.inl rfl | exact Or.inr rfl | assumption) ?_
    first | exact ⟨Tz0 (by omega), rfl⟩ | exact ⟨Tz1 (by omega), rfl⟩ | done
  · -- X8_isFull 7F
    have i7 := c7
    simp (disch := omega) only [i32_lt, i32_le, i32_eq, Int32.reduceToInt, nI_toInt] at i7
    refine x_aload_n hκ dX8_isFull_10 rfl ?_
    refine t_get hκ fl8_25 (by decide) (by decide) rfl (by (try simp (disch := omega) only [tS_1, tS_2, tA_1, tA_2, tF_1, tF_2, xl_0, xl_1, xl_2, Nat.reduceEqDiff, ↓reduceIte, nI_add, nI_1, nm_2, nm_3, nm_4, nm_6, nm_7, nm_8, nm_12, nm_16, nm_24, nm_40, nm_180, nm_300, nm_10210, na_0, na_2, na_3, na_4, na_5, na_6, na_7, na_8, nm_p, nm_m, nI_clamp]); exact rfl) dX8_isFull_11 ?_
    refine x_sipush (v := 190) hκ dX8_isFull_14 (by decide) ?_
    refine x_icmp_le (tgt := 24) hκ dX8_isFull_17 (by decide) (fun c17 => ?_) (fun c17 => ?_)
    · -- X8_isFull 17T
      have i17 := c17
      simp (disch := omega) only [i32_lt, i32_le, i32_eq, Int32.reduceToInt, nI_toInt] at i17
      refine x_iconst (v := 0) hκ dX8_isFull_24 (by decide) ?_
      refine t_retz hκ hr rfl dX8_isFull_25 (by first | exact Or.inl rfl | exact Or.inr rfl | assumption) ?_
      first | exact ⟨Tz0 (by omega), rfl⟩ | exact ⟨Tz1 (by omega), rfl⟩ | done
    · -- X8_isFull 17F
      have i17 := c17
      simp (disch := omega) only [i32_lt, i32_le, i32_eq, Int32.reduceToInt, nI_toInt] at i17
      refine x_iconst (v := 1) hκ dX8_isFull_20 (by decide) ?_
      refine x_goto (tgt := 25) hκ dX8_isFull_21 (by decide) ?_
      refine t_retz hκ hr rfl dX8_isFull_25 (by first | exact Or.inl rfl | exact Or.inr rfl | assumption) ?_
      first | exact ⟨Tz0 (by omega), rfl⟩ | exact ⟨Tz1 (by omega), rfl⟩ | done
theorem mX8_isCopy {E : gE} {θ : TA} (hθ : tOk θ) {σ : TS} (hT : TIt σ) {b t i : Int32} : TMi E θ σ yX8_isCopy cX8_isCopy 4 .boolean 3 [.int b, .int t, .int i] (fun r σ' => Tz (((0 ≤ b.toInt ∧ b.toInt ≤ 2) ∧ 0 ≤ t.toInt ∧ t.toInt ≤ 3) ∧ 0 ≤ i.toInt ∧ i.toInt < (σ.2 40 (Int32.toNatClampNeg (4 * b + t))).toInt) r ∧ σ' = σ) := by
  refine TMi.of (by decide) (Nat.le_of_ble_eq_true rfl) ?_
  rintro κ rfl hL hκ hr
  refine x_iload_n hκ dX8_isCopy_0 rfl ?_
  refine x_iload_n hκ dX8_isCopy_1 rfl ?_
  refine x_callSi hκ mX8_isPlace (by omega) (by decide) wX8_308 aX8_isPlace rfl (Nat.le_of_ble_eq_true rfl) dX8_isCopy_2 (fun r2 h2 => ?_)
  refine x_if_eq (tgt := 32) hκ dX8_isCopy_5 (by decide) (fun c5 => ?_) (fun c5 => ?_)
  · -- X8_isCopy 5T
    have i5 := h2.f c5
    try simp only [Int32.reduceToInt] at i5
    refine x_iconst (v := 0) hκ dX8_isCopy_32 (by decide) ?_
    refine t_retz hκ hr rfl dX8_isCopy_33 (by first | exact Or.inl rfl | exact Or.inr rfl | assumption) ?_
    first | exact ⟨Tz0 (by omega), rfl⟩ | exact ⟨Tz1 (by omega), rfl⟩ | done
  · -- X8_isCopy 5F
    have i5 := h2.t c5
    try simp only [Int32.reduceToInt] at i5
    refine x_iload_n hκ dX8_isCopy_8 rfl ?_
    refine x_iconst (v := 0) hκ dX8_isCopy_9 (by decide) ?_
    refine x_aload_n hκ dX8_isCopy_10 rfl ?_
    refine t_getA hκ fl8_40 (by decide) (by decide) rfl dX8_isCopy_11 ?_
    refine x_iconst (v := 4) hκ dX8_isCopy_14 (by decide) ?_
    refine x_iload_n hκ dX8_isCopy_15 rfl ?_
    refine x_imulN hκ (by (try simp (disch := omega) only [tS_1, tS_2, tA_1, tA_2, tF_1, tF_2, xl_0, xl_1, xl_2, Nat.reduceEqDiff, ↓reduceIte, nI_add, nI_1, nm_2, nm_3, nm_4, nm_6, nm_7, nm_8, nm_12, nm_16, nm_24, nm_40, nm_180, nm_300, nm_10210, na_0, na_2, na_3, na_4, na_5, na_6, na_7, na_8, nm_p, nm_m, nI_clamp]); exact rfl) dX8_isCopy_16 ?_
    refine x_iload_n hκ dX8_isCopy_17 rfl ?_
    refine x_iaddN hκ (by (try simp (disch := omega) only [tS_1, tS_2, tA_1, tA_2, tF_1, tF_2, xl_0, xl_1, xl_2, Nat.reduceEqDiff, ↓reduceIte, nI_add, nI_1, nm_2, nm_3, nm_4, nm_6, nm_7, nm_8, nm_12, nm_16, nm_24, nm_40, nm_180, nm_300, nm_10210, na_0, na_2, na_3, na_4, na_5, na_6, na_7, na_8, nm_p, nm_m, nI_clamp]); exact rfl) dX8_isCopy_18 ?_
    refine t_iald (n := 12) hκ hθ (by decide) rfl rfl (by first | ((with_reducible refine vp_in_nI ?_ ?_) <;> omega) | exact i32_in (by omega) (by omega) | exact i32_in' (by simp only [Int32.toInt_add, Int32.toInt_mul, Int32.toInt_sub, Int32.reduceToInt, Int.bmod_add_bmod, Int.bmod_sub_bmod, Int.add_bmod_bmod, Int.sub_bmod_bmod, Int.bmod_mul_bmod, Int.mul_bmod_bmod]; exact i32_bm (by omega) (by omega)) (by omega) (by omega) | exact i32_in (by decide) (by decide)) (by (try simp (disch := omega) only [tS_1, tS_2, tA_1, tA_2, tF_1, tF_2, xl_0, xl_1, xl_2, Nat.reduceEqDiff, ↓reduceIte, nI_add, nI_1, nm_2, nm_3, nm_4, nm_6, nm_7, nm_8, nm_12, nm_16, nm_24, nm_40, nm_180, nm_300, nm_10210, na_0, na_2, na_3, na_4, na_5, na_6, na_7, na_8, nm_p, nm_m, nI_clamp]); exact rfl) dX8_isCopy_19 ?_
    refine x_iconst (v := 1) hκ dX8_isCopy_20 (by decide) ?_
    refine x_isubN hκ (by (try simp (disch := omega) only [tS_1, tS_2, tA_1, tA_2, tF_1, tF_2, xl_0, xl_1, xl_2, Nat.reduceEqDiff, ↓reduceIte, nI_add, nI_1, nm_2, nm_3, nm_4, nm_6, nm_7, nm_8, nm_12, nm_16, nm_24, nm_40, nm_180, nm_300, nm_10210, na_0, na_2, na_3, na_4, na_5, na_6, na_7, na_8, nm_p, nm_m, nI_clamp]); exact rfl) dX8_isCopy_21 ?_
    refine x_callSi hκ mX8_in (by omega) (by decide) wX8_122 aX8_in rfl (Nat.le_of_ble_eq_true rfl) dX8_isCopy_22 (fun r22 h22 => ?_)
    have e4 := ix_4 i5.1 i5.2
    have e5 := hT (Int32.toNatClampNeg (4 * b + t)) (by show (4 * b + t).toInt.toNat < 12; omega)
    have e6 : (σ.2 40 (Int32.toNatClampNeg (4 * b + t)) - 1).toInt = (σ.2 40 (Int32.toNatClampNeg (4 * b + t))).toInt - 1 := i32_sub (by simp only [Int32.reduceToInt]; omega) (by simp only [Int32.reduceToInt]; omega)
    rw [e6] at h22
    refine x_if_eq (tgt := 32) hκ dX8_isCopy_25 (by decide) (fun c25 => ?_) (fun c25 => ?_)
    · -- X8_isCopy 25T
      have i25 := h22.f c25
      try simp only [Int32.reduceToInt] at i25
      refine x_iconst (v := 0) hκ dX8_isCopy_32 (by decide) ?_
      refine t_retz hκ hr rfl dX8_isCopy_33 (by first | exact Or.inl rfl | exact Or.inr rfl | assumption) ?_
      first | exact ⟨Tz0 (by omega), rfl⟩ | exact ⟨Tz1 (by omega), rfl⟩ | done
    · -- X8_isCopy 25F
      have i25 := h22.t c25
      try simp only [Int32.reduceToInt] at i25
      refine x_iconst (v := 1) hκ dX8_isCopy_28 (by decide) ?_
      refine x_goto (tgt := 33) hκ dX8_isCopy_29 (by decide) ?_
      refine t_retz hκ hr rfl dX8_isCopy_33 (by first | exact Or.inl rfl | exact Or.inr rfl | assumption) ?_
      first | exact ⟨Tz0 (by omega), rfl⟩ | exact ⟨Tz1 (by omega), rfl⟩ | done
theorem mX8_size {E : gE} {θ : TA} (hθ : tOk θ) {σ : TS} {b t : Int32} : TMi E θ σ yX8_size cX8_size 3 .int 3 [.int b, .int t] (fun r σ' => (r = if (0 ≤ b.toInt ∧ b.toInt ≤ 2) ∧ 0 ≤ t.toInt ∧ t.toInt ≤ 3 then σ.2 40 (Int32.toNatClampNeg (4 * b + t)) else -1) ∧ σ' = σ) := by
  refine TMi.of (by decide) (Nat.le_of_ble_eq_true rfl) ?_
  rintro κ rfl hL hκ hr
  refine x_iload_n hκ dX8_size_0 rfl ?_
  refine x_iload_n hκ dX8_size_1 rfl ?_
  refine x_callSi hκ mX8_isPlace (by omega) (by decide) wX8_308 aX8_isPlace rfl (Nat.le_of_ble_eq_true rfl) dX8_size_2 (fun r2 h2 => ?_)
  refine x_if_eq (tgt := 21) hκ dX8_size_5 (by decide) (fun c5 => ?_) (fun c5 => ?_)
  · -- X8_size 5T
    have i5 := h2.f c5
    try simp only [Int32.reduceToInt] at i5
    refine x_iconst (v := (-1)) hκ dX8_size_21 (by decide) ?_
    refine t_reti hκ hr rfl dX8_size_22 ?_
    first | (rw [if_neg (by omega)]; exact ⟨rfl, rfl⟩) | (rw [if_pos (by omega)]; exact ⟨rfl, rfl⟩) | done
  · -- X8_size 5F
    have i5 := h2.t c5
    try simp only [Int32.reduceToInt] at i5
    refine x_aload_n hκ dX8_size_8 rfl ?_
    refine t_getA hκ fl8_40 (by decide) (by decide) rfl dX8_size_9 ?_
    refine x_iconst (v := 4) hκ dX8_size_12 (by decide) ?_
    refine x_iload_n hκ dX8_size_13 rfl ?_
    refine x_imulN hκ (by (try simp (disch := omega) only [tS_1, tS_2, tA_1, tA_2, tF_1, tF_2, xl_0, xl_1, xl_2, Nat.reduceEqDiff, ↓reduceIte, nI_add, nI_1, nm_2, nm_3, nm_4, nm_6, nm_7, nm_8, nm_12, nm_16, nm_24, nm_40, nm_180, nm_300, nm_10210, na_0, na_2, na_3, na_4, na_5, na_6, na_7, na_8, nm_p, nm_m, nI_clamp]); exact rfl) dX8_size_14 ?_
    refine x_iload_n hκ dX8_size_15 rfl ?_
    refine x_iaddN hκ (by (try simp (disch := omega) only [tS_1, tS_2, tA_1, tA_2, tF_1, tF_2, xl_0, xl_1, xl_2, Nat.reduceEqDiff, ↓reduceIte, nI_add, nI_1, nm_2, nm_3, nm_4, nm_6, nm_7, nm_8, nm_12, nm_16, nm_24, nm_40, nm_180, nm_300, nm_10210, na_0, na_2, na_3, na_4, na_5, na_6, na_7, na_8, nm_p, nm_m, nI_clamp]); exact rfl) dX8_size_16 ?_
    refine t_iald (n := 12) hκ hθ (by decide) rfl rfl (by first | ((with_reducible refine vp_in_nI ?_ ?_) <;> omega) | exact i32_in (by omega) (by omega) | exact i32_in' (by simp only [Int32.toInt_add, Int32.toInt_mul, Int32.toInt_sub, Int32.reduceToInt, Int.bmod_add_bmod, Int.bmod_sub_bmod, Int.add_bmod_bmod, Int.sub_bmod_bmod, Int.bmod_mul_bmod, Int.mul_bmod_bmod]; exact i32_bm (by omega) (by omega)) (by omega) (by omega) | exact i32_in (by decide) (by decide)) (by (try simp (disch := omega) only [tS_1, tS_2, tA_1, tA_2, tF_1, tF_2, xl_0, xl_1, xl_2, Nat.reduceEqDiff, ↓reduceIte, nI_add, nI_1, nm_2, nm_3, nm_4, nm_6, nm_7, nm_8, nm_12, nm_16, nm_24, nm_40, nm_180, nm_300, nm_10210, na_0, na_2, na_3, na_4, na_5, na_6, na_7, na_8, nm_p, nm_m, nI_clamp]); exact rfl) dX8_size_17 ?_
    refine x_goto (tgt := 22) hκ dX8_size_18 (by decide) ?_
    refine t_reti hκ hr rfl dX8_size_22 ?_
    first | (rw [if_neg (by omega)]; exact ⟨rfl, rfl⟩) | (rw [if_pos (by omega)]; exact ⟨rfl, rfl⟩) | done
theorem mX8_known {E : gE} {θ : TA} (hθ : tOk θ) {σ : TS} {k z : Int32} : TMi E θ σ yX8_known cX8_known 3 .int 3 [.int k, .int z] (fun r σ' => (r = if 0 ≤ k.toInt ∧ k.toInt ≤ 11 then (if z = 0 then σ.2 58 (Int32.toNatClampNeg (12 + k)) else σ.2 58 (Int32.toNatClampNeg k)) else -1) ∧ σ' = σ) := by
  refine TMi.of (by decide) (Nat.le_of_ble_eq_true rfl) ?_
  rintro κ rfl hL hκ hr
  refine x_iload_n hκ dX8_known_0 rfl ?_
  refine x_iconst (v := 0) hκ dX8_known_1 (by decide) ?_
  refine x_bipush (v := 11) hκ dX8_known_2 (by decide) ?_
  refine x_callSi hκ mX8_in (by omega) (by decide) wX8_122 aX8_in rfl (Nat.le_of_ble_eq_true rfl) dX8_known_4 (fun r4 h4 => ?_)
  refine x_if_eq (tgt := 30) hκ dX8_known_7 (by decide) (fun c7 => ?_) (fun c7 => ?_)
  · -- X8_known 7T
    have i7 := h4.f c7
    try simp only [Int32.reduceToInt] at i7
    refine x_iconst (v := (-1)) hκ dX8_known_30 (by decide) ?_
    refine t_reti hκ hr rfl dX8_known_31 ?_
    first | (rw [if_neg (by omega)]; exact ⟨rfl, rfl⟩) | (rw [if_pos (by omega), if_pos c15]; exact ⟨rfl, rfl⟩) | (rw [if_pos (by omega), if_neg c15]; exact ⟨rfl, rfl⟩)
  · -- X8_known 7F
    have i7 := h4.t c7
    try simp only [Int32.reduceToInt] at i7
    refine x_aload_n hκ dX8_known_10 rfl ?_
    refine t_getA hκ fl8_58 (by decide) (by decide) rfl dX8_known_11 ?_
    refine x_iload_n hκ dX8_known_14 rfl ?_
    refine x_if_eq (tgt := 22) hκ dX8_known_15 (by decide) (fun c15 => ?_) (fun c15 => ?_)
    · -- X8_known 15T
      have i15 := c15
      simp (disch := omega) only [i32_lt, i32_le, i32_eq, Int32.reduceToInt, nI_toInt] at i15
      refine x_bipush (v := 12) hκ dX8_known_22 (by decide) ?_
      refine x_iload_n hκ dX8_known_24 rfl ?_
      refine x_iaddN hκ (by (try simp (disch := omega) only [tS_1, tS_2, tA_1, tA_2, tF_1, tF_2, xl_0, xl_1, xl_2, Nat.reduceEqDiff, ↓reduceIte, nI_add, nI_1, nm_2, nm_3, nm_4, nm_6, nm_7, nm_8, nm_12, nm_16, nm_24, nm_40, nm_180, nm_300, nm_10210, na_0, na_2, na_3, na_4, na_5, na_6, na_7, na_8, nm_p, nm_m, nI_clamp]); exact rfl) dX8_known_25 ?_
      refine t_iald (n := 24) hκ hθ (by decide) rfl rfl (by first | ((with_reducible refine vp_in_nI ?_ ?_) <;> omega) | exact i32_in (by omega) (by omega) | exact i32_in' (by simp only [Int32.toInt_add, Int32.toInt_mul, Int32.toInt_sub, Int32.reduceToInt, Int.bmod_add_bmod, Int.bmod_sub_bmod, Int.add_bmod_bmod, Int.sub_bmod_bmod, Int.bmod_mul_bmod, Int.mul_bmod_bmod]; exact i32_bm (by omega) (by omega)) (by omega) (by omega) | exact i32_in (by decide) (by decide)) (by (try simp (disch := omega) only [tS_1, tS_2, tA_1, tA_2, tF_1, tF_2, xl_0, xl_1, xl_2, Nat.reduceEqDiff, ↓reduceIte, nI_add, nI_1, nm_2, nm_3, nm_4, nm_6, nm_7, nm_8, nm_12, nm_16, nm_24, nm_40, nm_180, nm_300, nm_10210, na_0, na_2, na_3, na_4, na_5, na_6, na_7, na_8, nm_p, nm_m, nI_clamp]); exact rfl) dX8_known_26 ?_
      refine x_goto (tgt := 31) hκ dX8_known_27 (by decide) ?_
      refine t_reti hκ hr rfl dX8_known_31 ?_
      first | (rw [if_neg (by omega)]; exact ⟨rfl, rfl⟩) | (rw [if_pos (by omega), if_pos c15]; exact ⟨rfl, rfl⟩) | (rw [if_pos (by omega), if_neg c15]; exact ⟨rfl, rfl⟩)
    · -- X8_known 15F
      have i15 := c15
      simp (disch := omega) only [i32_lt, i32_le, i32_eq, Int32.reduceToInt, nI_toInt] at i15
      refine x_iload_n hκ dX8_known_18 rfl ?_
      refine x_goto (tgt := 26) hκ dX8_known_19 (by decide) ?_
      refine t_iald (n := 24) hκ hθ (by decide) rfl rfl (by first | ((with_reducible refine vp_in_nI ?_ ?_) <;> omega) | exact i32_in (by omega) (by omega) | exact i32_in' (by simp only [Int32.toInt_add, Int32.toInt_mul, Int32.toInt_sub, Int32.reduceToInt, Int.bmod_add_bmod, Int.bmod_sub_bmod, Int.add_bmod_bmod, Int.sub_bmod_bmod, Int.bmod_mul_bmod, Int.mul_bmod_bmod]; exact i32_bm (by omega) (by omega)) (by omega) (by omega) | exact i32_in (by decide) (by decide)) (by (try simp (disch := omega) only [tS_1, tS_2, tA_1, tA_2, tF_1, tF_2, xl_0, xl_1, xl_2, Nat.reduceEqDiff, ↓reduceIte, nI_add, nI_1, nm_2, nm_3, nm_4, nm_6, nm_7, nm_8, nm_12, nm_16, nm_24, nm_40, nm_180, nm_300, nm_10210, na_0, na_2, na_3, na_4, na_5, na_6, na_7, na_8, nm_p, nm_m, nI_clamp]); exact rfl) dX8_known_26 ?_
      refine x_goto (tgt := 31) hκ dX8_known_27 (by decide) ?_
      refine t_reti hκ hr rfl dX8_known_31 ?_
      first | (rw [if_neg (by omega)]; exact ⟨rfl, rfl⟩) | (rw [if_pos (by omega), if_pos c15]; exact ⟨rfl, rfl⟩) | (rw [if_pos (by omega), if_neg c15]; exact ⟨rfl, rfl⟩)
theorem mX8_count {E : gE} {θ : TA} (hθ : tOk θ) {σ : TS} {k : Int32} : TMi E θ σ yX8_count cX8_count 2 .int 3 [.int k] (fun r σ' => (r = if k.toInt = 0 then σ.1 25 else if k.toInt = 1 then l_sum (σ.2 40) 12 else if k.toInt = 2 then σ.1 36 else if k.toInt = 3 then σ.1 37 else if k.toInt = 4 then σ.1 38 else if k.toInt = 5 then σ.1 39 else if k.toInt = 6 then σ.2 57 0 else if k.toInt = 7 then σ.2 57 1 else -1) ∧ σ' = σ) := by
  refine TMi.of (by decide) (Nat.le_of_ble_eq_true rfl) ?_
  rintro κ rfl hL hκ hr
  refine x_iload_n hκ dX8_count_0 rfl ?_
  refine x_topi (fun s1 es1 => ?_)
  by_cases hs1 : s1.toInt < 0 ∨ 7 < s1.toInt
  · -- X8_count 1D
    refine x_tableOut (tgt := 92) hκ dX8_count_1 hs1 (by decide) ?_
    refine x_iconst (v := (-1)) hκ dX8_count_92 (by decide) ?_
    refine t_reti hκ hr rfl dX8_count_93 ?_
    refine ⟨?_, rfl⟩
    subst es1
    repeat rw [if_neg (by omega)]
  · rcases (show s1.toInt = 0 ∨ s1.toInt = 1 ∨ s1.toInt = 2 ∨ s1.toInt = 3 ∨ s1.toInt = 4 ∨ s1.toInt = 5 ∨ s1.toInt = 6 ∨ s1.toInt = 7 by omega) with e1 | e1 | e1 | e1 | e1 | e1 | e1 | e1
    · -- X8_count 1C0
      refine x_tableIn (off := 47) (tgt := 48) hκ dX8_count_1 (by rw [e1]; decide) (by rw [e1]; decide) (by rw [e1]; rfl) (by decide) ?_
      refine x_aload_n hκ dX8_count_48 rfl ?_
      refine t_get hκ fl8_25 (by decide) (by decide) rfl (by (try simp (disch := omega) only [tS_1, tS_2, tA_1, tA_2, tF_1, tF_2, xl_0, xl_1, xl_2, Nat.reduceEqDiff, ↓reduceIte, nI_add, nI_1, nm_2, nm_3, nm_4, nm_6, nm_7, nm_8, nm_12, nm_16, nm_24, nm_40, nm_180, nm_300, nm_10210, na_0, na_2, na_3, na_4, na_5, na_6, na_7, na_8, nm_p, nm_m, nI_clamp]); exact rfl) dX8_count_49 ?_
      refine t_reti hκ hr rfl dX8_count_52 ?_
      refine ⟨?_, rfl⟩
      subst es1
      simp only [e1]
      rfl
    · -- X8_count 1C1
      refine x_tableIn (off := 52) (tgt := 53) hκ dX8_count_1 (by rw [e1]; decide) (by rw [e1]; decide) (by rw [e1]; rfl) (by decide) ?_
      refine x_aload_n hκ dX8_count_53 rfl ?_
      refine t_callR hκ (mX8_copies hθ) (by omega) (by decide) wX8_285 aX8_copies rfl (Nat.le_of_ble_eq_true rfl) dX8_count_54 (fun r54 h54 => ?_)
      subst h54
      refine t_reti hκ hr rfl dX8_count_57 ?_
      refine ⟨?_, rfl⟩
      subst es1
      simp only [e1]
      rfl
    · -- X8_count 1C2
      refine x_tableIn (off := 57) (tgt := 58) hκ dX8_count_1 (by rw [e1]; decide) (by rw [e1]; decide) (by rw [e1]; rfl) (by decide) ?_
      refine x_aload_n hκ dX8_count_58 rfl ?_
      refine t_get hκ fl8_36 (by decide) (by decide) rfl (by (try simp (disch := omega) only [tS_1, tS_2, tA_1, tA_2, tF_1, tF_2, xl_0, xl_1, xl_2, Nat.reduceEqDiff, ↓reduceIte, nI_add, nI_1, nm_2, nm_3, nm_4, nm_6, nm_7, nm_8, nm_12, nm_16, nm_24, nm_40, nm_180, nm_300, nm_10210, na_0, na_2, na_3, na_4, na_5, na_6, na_7, na_8, nm_p, nm_m, nI_clamp]); exact rfl) dX8_count_59 ?_
      refine t_reti hκ hr rfl dX8_count_62 ?_
      refine ⟨?_, rfl⟩
      subst es1
      simp only [e1]
      rfl
    · -- X8_count 1C3
      refine x_tableIn (off := 62) (tgt := 63) hκ dX8_count_1 (by rw [e1]; decide) (by rw [e1]; decide) (by rw [e1]; rfl) (by decide) ?_
      refine x_aload_n hκ dX8_count_63 rfl ?_
      refine t_get hκ fl8_37 (by decide) (by decide) rfl (by (try simp (disch := omega) only [tS_1, tS_2, tA_1, tA_2, tF_1, tF_2, xl_0, xl_1, xl_2, Nat.reduceEqDiff, ↓reduceIte, nI_add, nI_1, nm_2, nm_3, nm_4, nm_6, nm_7, nm_8, nm_12, nm_16, nm_24, nm_40, nm_180, nm_300, nm_10210, na_0, na_2, na_3, na_4, na_5, na_6, na_7, na_8, nm_p, nm_m, nI_clamp]); exact rfl) dX8_count_64 ?_
      refine t_reti hκ hr rfl dX8_count_67 ?_
      refine ⟨?_, rfl⟩
      subst es1
      simp only [e1]
      rfl
    · -- X8_count 1C4
      refine x_tableIn (off := 67) (tgt := 68) hκ dX8_count_1 (by rw [e1]; decide) (by rw [e1]; decide) (by rw [e1]; rfl) (by decide) ?_
      refine x_aload_n hκ dX8_count_68 rfl ?_
      refine t_get hκ fl8_38 (by decide) (by decide) rfl (by (try simp (disch := omega) only [tS_1, tS_2, tA_1, tA_2, tF_1, tF_2, xl_0, xl_1, xl_2, Nat.reduceEqDiff, ↓reduceIte, nI_add, nI_1, nm_2, nm_3, nm_4, nm_6, nm_7, nm_8, nm_12, nm_16, nm_24, nm_40, nm_180, nm_300, nm_10210, na_0, na_2, na_3, na_4, na_5, na_6, na_7, na_8, nm_p, nm_m, nI_clamp]); exact rfl) dX8_count_69 ?_
      refine t_reti hκ hr rfl dX8_count_72 ?_
      refine ⟨?_, rfl⟩
      subst es1
      simp only [e1]
      rfl
    · -- X8_count 1C5
      refine x_tableIn (off := 72) (tgt := 73) hκ dX8_count_1 (by rw [e1]; decide) (by rw [e1]; decide) (by rw [e1]; rfl) (by decide) ?_
      refine x_aload_n hκ dX8_count_73 rfl ?_
      refine t_get hκ fl8_39 (by decide) (by decide) rfl (by (try simp (disch := omega) only [tS_1, tS_2, tA_1, tA_2, tF_1, tF_2, xl_0, xl_1, xl_2, Nat.reduceEqDiff, ↓reduceIte, nI_add, nI_1, nm_2, nm_3, nm_4, nm_6, nm_7, nm_8, nm_12, nm_16, nm_24, nm_40, nm_180, nm_300, nm_10210, na_0, na_2, na_3, na_4, na_5, na_6, na_7, na_8, nm_p, nm_m, nI_clamp]); exact rfl) dX8_count_74 ?_
      refine t_reti hκ hr rfl dX8_count_77 ?_
      refine ⟨?_, rfl⟩
      subst es1
      simp only [e1]
      rfl
    · -- X8_count 1C6
      refine x_tableIn (off := 77) (tgt := 78) hκ dX8_count_1 (by rw [e1]; decide) (by rw [e1]; decide) (by rw [e1]; rfl) (by decide) ?_
      refine x_aload_n hκ dX8_count_78 rfl ?_
      refine t_getA hκ fl8_57 (by decide) (by decide) rfl dX8_count_79 ?_
      refine x_iconst (v := 0) hκ dX8_count_82 (by decide) ?_
      refine t_iald (n := 2) hκ hθ (by decide) rfl rfl (by first | ((with_reducible refine vp_in_nI ?_ ?_) <;> omega) | exact i32_in (by omega) (by omega) | exact i32_in' (by simp only [Int32.toInt_add, Int32.toInt_mul, Int32.toInt_sub, Int32.reduceToInt, Int.bmod_add_bmod, Int.bmod_sub_bmod, Int.add_bmod_bmod, Int.sub_bmod_bmod, Int.bmod_mul_bmod, Int.mul_bmod_bmod]; exact i32_bm (by omega) (by omega)) (by omega) (by omega) | exact i32_in (by decide) (by decide)) (by (try simp (disch := omega) only [tS_1, tS_2, tA_1, tA_2, tF_1, tF_2, xl_0, xl_1, xl_2, Nat.reduceEqDiff, ↓reduceIte, nI_add, nI_1, nm_2, nm_3, nm_4, nm_6, nm_7, nm_8, nm_12, nm_16, nm_24, nm_40, nm_180, nm_300, nm_10210, na_0, na_2, na_3, na_4, na_5, na_6, na_7, na_8, nm_p, nm_m, nI_clamp]); exact rfl) dX8_count_83 ?_
      refine t_reti hκ hr rfl dX8_count_84 ?_
      refine ⟨?_, rfl⟩
      subst es1
      simp only [e1]
      rfl
    · -- X8_count 1C7
      refine x_tableIn (off := 84) (tgt := 85) hκ dX8_count_1 (by rw [e1]; decide) (by rw [e1]; decide) (by rw [e1]; rfl) (by decide) ?_
      refine x_aload_n hκ dX8_count_85 rfl ?_
      refine t_getA hκ fl8_57 (by decide) (by decide) rfl dX8_count_86 ?_
      refine x_iconst (v := 1) hκ dX8_count_89 (by decide) ?_
      refine t_iald (n := 2) hκ hθ (by decide) rfl rfl (by first | ((with_reducible refine vp_in_nI ?_ ?_) <;> omega) | exact i32_in (by omega) (by omega) | exact i32_in' (by simp only [Int32.toInt_add, Int32.toInt_mul, Int32.toInt_sub, Int32.reduceToInt, Int.bmod_add_bmod, Int.bmod_sub_bmod, Int.add_bmod_bmod, Int.sub_bmod_bmod, Int.bmod_mul_bmod, Int.mul_bmod_bmod]; exact i32_bm (by omega) (by omega)) (by omega) (by omega) | exact i32_in (by decide) (by decide)) (by (try simp (disch := omega) only [tS_1, tS_2, tA_1, tA_2, tF_1, tF_2, xl_0, xl_1, xl_2, Nat.reduceEqDiff, ↓reduceIte, nI_add, nI_1, nm_2, nm_3, nm_4, nm_6, nm_7, nm_8, nm_12, nm_16, nm_24, nm_40, nm_180, nm_300, nm_10210, na_0, na_2, na_3, na_4, na_5, na_6, na_7, na_8, nm_p, nm_m, nI_clamp]); exact rfl) dX8_count_90 ?_
      refine t_reti hκ hr rfl dX8_count_91 ?_
      refine ⟨?_, rfl⟩
      subst es1
      simp only [e1]
      rfl
theorem mX8_clear {E : gE} {θ : TA} (hθ : tOk θ) {σ : TS} {b t : Int32} : TMi E θ σ yX8_clear cX8_clear 4 .int 3 [.int b, .int t] (fun r σ' => if (0 ≤ b.toInt ∧ b.toInt ≤ 2) ∧ 0 ≤ t.toInt ∧ t.toInt ≤ 3 then r = σ.2 40 (Int32.toNatClampNeg (4 * b + t)) ∧ σ' = tA σ 40 (Int32.toNatClampNeg (4 * b + t)) 0 else r = -1 ∧ σ' = σ) := by
  refine TMi.of (by decide) (Nat.le_of_ble_eq_true rfl) ?_
  rintro κ rfl hL hκ hr
  refine x_iload_n hκ dX8_clear_0 rfl ?_
  refine x_iload_n hκ dX8_clear_1 rfl ?_
  refine x_callSi hκ mX8_isPlace (by omega) (by decide) wX8_308 aX8_isPlace rfl (Nat.le_of_ble_eq_true rfl) dX8_clear_2 (fun r2 h2 => ?_)
  refine x_if_ne (tgt := 10) hκ dX8_clear_5 (by decide) (fun c5 => ?_) (fun c5 => ?_)
  · -- X8_clear 5T
    have i5 := h2.t c5
    try simp only [Int32.reduceToInt] at i5
    refine x_aload_n hκ dX8_clear_10 rfl ?_
    refine t_getA hκ fl8_40 (by decide) (by decide) rfl dX8_clear_11 ?_
    refine x_iconst (v := 4) hκ dX8_clear_14 (by decide) ?_
    refine x_iload_n hκ dX8_clear_15 rfl ?_
    refine x_imulN hκ (by (try simp (disch := omega) only [tS_1, tS_2, tA_1, tA_2, tF_1, tF_2, xl_0, xl_1, xl_2, Nat.reduceEqDiff, ↓reduceIte, nI_add, nI_1, nm_2, nm_3, nm_4, nm_6, nm_7, nm_8, nm_12, nm_16, nm_24, nm_40, nm_180, nm_300, nm_10210, na_0, na_2, na_3, na_4, na_5, na_6, na_7, na_8, nm_p, nm_m, nI_clamp]); exact rfl) dX8_clear_16 ?_
    refine x_iload_n hκ dX8_clear_17 rfl ?_
    refine x_iaddN hκ (by (try simp (disch := omega) only [tS_1, tS_2, tA_1, tA_2, tF_1, tF_2, xl_0, xl_1, xl_2, Nat.reduceEqDiff, ↓reduceIte, nI_add, nI_1, nm_2, nm_3, nm_4, nm_6, nm_7, nm_8, nm_12, nm_16, nm_24, nm_40, nm_180, nm_300, nm_10210, na_0, na_2, na_3, na_4, na_5, na_6, na_7, na_8, nm_p, nm_m, nI_clamp]); exact rfl) dX8_clear_18 ?_
    refine t_iald (n := 12) hκ hθ (by decide) rfl rfl (by first | ((with_reducible refine vp_in_nI ?_ ?_) <;> omega) | exact i32_in (by omega) (by omega) | exact i32_in' (by simp only [Int32.toInt_add, Int32.toInt_mul, Int32.toInt_sub, Int32.reduceToInt, Int.bmod_add_bmod, Int.bmod_sub_bmod, Int.add_bmod_bmod, Int.sub_bmod_bmod, Int.bmod_mul_bmod, Int.mul_bmod_bmod]; exact i32_bm (by omega) (by omega)) (by omega) (by omega) | exact i32_in (by decide) (by decide)) (by (try simp (disch := omega) only [tS_1, tS_2, tA_1, tA_2, tF_1, tF_2, xl_0, xl_1, xl_2, Nat.reduceEqDiff, ↓reduceIte, nI_add, nI_1, nm_2, nm_3, nm_4, nm_6, nm_7, nm_8, nm_12, nm_16, nm_24, nm_40, nm_180, nm_300, nm_10210, na_0, na_2, na_3, na_4, na_5, na_6, na_7, na_8, nm_p, nm_m, nI_clamp]); exact rfl) dX8_clear_19 ?_
    refine x_istore_n hκ dX8_clear_20 (by rw [hL]; decide) rfl ?_
    refine x_aload_n hκ dX8_clear_21 rfl ?_
    refine t_getA hκ fl8_40 (by decide) (by decide) rfl dX8_clear_22 ?_
    refine x_iconst (v := 4) hκ dX8_clear_25 (by decide) ?_
    refine x_iload_n hκ dX8_clear_26 rfl ?_
    refine x_imulN hκ (by (try simp (disch := omega) only [tS_1, tS_2, tA_1, tA_2, tF_1, tF_2, xl_0, xl_1, xl_2, Nat.reduceEqDiff, ↓reduceIte, nI_add, nI_1, nm_2, nm_3, nm_4, nm_6, nm_7, nm_8, nm_12, nm_16, nm_24, nm_40, nm_180, nm_300, nm_10210, na_0, na_2, na_3, na_4, na_5, na_6, na_7, na_8, nm_p, nm_m, nI_clamp]); exact rfl) dX8_clear_27 ?_
    refine x_iload_n hκ dX8_clear_28 rfl ?_
    refine x_iaddN hκ (by (try simp (disch := omega) only [tS_1, tS_2, tA_1, tA_2, tF_1, tF_2, xl_0, xl_1, xl_2, Nat.reduceEqDiff, ↓reduceIte, nI_add, nI_1, nm_2, nm_3, nm_4, nm_6, nm_7, nm_8, nm_12, nm_16, nm_24, nm_40, nm_180, nm_300, nm_10210, na_0, na_2, na_3, na_4, na_5, na_6, na_7, na_8, nm_p, nm_m, nI_clamp]); exact rfl) dX8_clear_29 ?_
    refine x_iconst (v := 0) hκ dX8_clear_30 (by decide) ?_
    refine t_iast (n := 12) hκ hθ (by decide) rfl rfl (by first | ((with_reducible refine vp_in_nI ?_ ?_) <;> omega) | exact i32_in (by omega) (by omega) | exact i32_in' (by simp only [Int32.toInt_add, Int32.toInt_mul, Int32.toInt_sub, Int32.reduceToInt, Int.bmod_add_bmod, Int.bmod_sub_bmod, Int.add_bmod_bmod, Int.sub_bmod_bmod, Int.bmod_mul_bmod, Int.mul_bmod_bmod]; exact i32_bm (by omega) (by omega)) (by omega) (by omega) | exact i32_in (by decide) (by decide)) (by (try simp (disch := omega) only [tS_1, tS_2, tA_1, tA_2, tF_1, tF_2, xl_0, xl_1, xl_2, Nat.reduceEqDiff, ↓reduceIte, nI_add, nI_1, nm_2, nm_3, nm_4, nm_6, nm_7, nm_8, nm_12, nm_16, nm_24, nm_40, nm_180, nm_300, nm_10210, na_0, na_2, na_3, na_4, na_5, na_6, na_7, na_8, nm_p, nm_m, nI_clamp]); exact rfl) dX8_clear_31 ?_
    refine x_iload_n hκ dX8_clear_32 rfl ?_
    refine t_reti hκ hr rfl dX8_clear_33 ?_
    first | (rw [if_neg (by omega)]; exact ⟨rfl, rfl⟩) | (rw [if_pos (by omega)]; exact ⟨rfl, rfl⟩) | done
  · -- X8_clear 5F
    have i5 := h2.f c5
    try simp only [Int32.reduceToInt] at i5
    refine x_iconst (v := (-1)) hκ dX8_clear_8 (by decide) ?_
    refine t_reti hκ hr rfl dX8_clear_9 ?_
    first | (rw [if_neg (by omega)]; exact ⟨rfl, rfl⟩) | (rw [if_pos (by omega)]; exact ⟨rfl, rfl⟩) | done
