
/-! the reference: truths of atoms, of rules -/
/-- an atom's truth, of the letter l at the box b -/
def so (σ : TS) (l b n : Nat) : Prop := if n / 1000000 = 0 then σ.2 26 l = nI (n % 1000000) else if n / 1000000 = 1 then (σ.2 27 l >>> (nI (n % 1000000) &&& 31)) &&& 1 = 1 else if n / 1000000 = 2 then (σ.2 28 l >>> (nI (n % 1000000) &&& 31)) &&& 1 = 1 else if n / 1000000 = 3 then nI (n % 1000000) < σ.2 29 l else if n / 1000000 = 4 then σ.2 30 l &&& 1 = 1 else if n / 1000000 = 5 then σ.2 30 l &&& 2 = 2 else if n / 1000000 = 6 then jk (σ.2 57) (σ.2 58) (σ.2 28 l) else if n / 1000000 = 7 then ¬ σ.2 34 (10210 * b + Int32.toNatClampNeg (σ.2 31 l)) = 0 else 0 ≤ (σ.2 32 l).toInt ∧ ¬ σ.2 34 (10210 * b + Int32.toNatClampNeg (σ.2 32 l)) = 0
theorem nd_M {n : Nat} (h : n < 9000000) : nI n / 1000000 = nI (n / 1000000) := pk_div (d := 1000000) (by omega) (by decide) (by decide)
theorem nr_M {n : Nat} (h : n < 9000000) : nI n - nI n / 1000000 * 1000000 = nI (n % 1000000) := pk_rem (d := 1000000) (by omega) (by decide) (by decide)
/-- the letter l can be asked -/
def SoOk (σ : TS) (l b : Nat) : Prop := σ.1 23 = nI l ∧ l ≤ 209 ∧ σ.1 24 = nI b ∧ b < 3 ∧ (0 ≤ (σ.2 31 l).toInt ∧ (σ.2 31 l).toInt ≤ 10209) ∧ (σ.2 32 l).toInt ≤ 10209 ∧ ∀ j : Nat, σ.2 34 j = 0 ∨ σ.2 34 j = 1
theorem ix_10210 {b : Nat} {x : Int32} (hb : b < 3) (h : 0 ≤ x.toInt ∧ x.toInt ≤ 10209) : (nI (10210 * b) + x).toInt = 10210 * b + x.toInt ∧ (nI (10210 * b) + x).toNatClampNeg = 10210 * b + Int32.toNatClampNeg x := by
  have q : (nI (10210 * b) + x).toInt = 10210 * b + x.toInt := by
    rw [Int32.toInt_add, nI_toInt (by omega)]
    rw [i32_bm (by omega) (by omega)]
    omega
  refine ⟨q, ?_⟩
  rw [i32_cl, q]
  show _ = 10210 * b + x.toInt.toNat
  omega
theorem mX8_isSo {E : gE} {θ : TA} (hθ : tOk θ) {σ : TS} {n l b : Nat} (hn : n < 9000000) (hs : SoOk σ l b) : TMi E θ σ yX8_isSo cX8_isSo 4 .boolean 1 [.int (nI n)] (fun r σ' => Tz (so σ l b n) r ∧ σ' = σ) := by
  refine TMi.of (by decide) (Nat.le_of_ble_eq_true rfl) ?_
  rintro κ rfl hL hκ hr
  obtain ⟨e1, hl, e2, hb, hi, hr2, hh⟩ := hs
  obtain ⟨f1, f2⟩ := ix_10210 hb hi
  have g1 := nd_M hn
  have g2 := nr_M hn
  have g3 := nI_toInt (n := n / 1000000) (by omega)
  refine x_iload_n hκ dX8_isSo_0 rfl ?_
  refine x_ldc hκ q1391 dX8_isSo_1 ?_
  refine x_irem hκ dX8_isSo_3 (by decide) ?_
  rw [g2]
  refine x_istore_n hκ dX8_isSo_4 (by rw [hL]; decide) rfl ?_
  refine x_aload_n hκ dX8_isSo_5 rfl ?_
  refine t_get hκ fl8_23 (by decide) (by decide) rfl (by (try simp (disch := omega) only [tS_1, tS_2, tA_1, tA_2, tF_1, tF_2, xl_0, xl_1, xl_2, Nat.reduceEqDiff, ↓reduceIte, nI_add, nI_1, nm_2, nm_3, nm_4, nm_6, nm_7, nm_8, nm_12, nm_16, nm_24, nm_40, nm_180, nm_300, nm_10210, na_0, na_2, na_3, na_4, na_5, na_6, na_7, na_8, nm_p, nm_m, nI_clamp, e1, e2, f2]); exact rfl) dX8_isSo_6 ?_
  refine x_istore_n hκ dX8_isSo_9 (by rw [hL]; decide) rfl ?_
  refine x_iload_n hκ dX8_isSo_10 rfl ?_
  refine x_ldc hκ q1391 dX8_isSo_11 ?_
  refine x_idiv hκ dX8_isSo_13 (by decide) ?_
  rw [g1]
  refine x_topi (fun s14 es14 => ?_)
  by_cases hs14 : s14.toInt < 0 ∨ 7 < s14.toInt
  · -- X8_isSo 14D
    refine x_tableOut (tgt := 195) hκ dX8_isSo_14 hs14 (by decide) ?_
    refine x_aload_n hκ dX8_isSo_195 rfl ?_
    refine t_getA hκ fl8_32 (by decide) (by decide) rfl dX8_isSo_196 ?_
    refine x_iload_n hκ dX8_isSo_199 rfl ?_
    refine t_iald (n := 210) hκ hθ (by decide) rfl rfl (by first | ((with_reducible refine vp_in_nI ?_ ?_) <;> omega) | exact i32_in (by omega) (by omega) | exact i32_in' (by simp only [Int32.toInt_add, Int32.toInt_mul, Int32.toInt_sub, Int32.reduceToInt, Int.bmod_add_bmod, Int.bmod_sub_bmod, Int.add_bmod_bmod, Int.sub_bmod_bmod, Int.bmod_mul_bmod, Int.mul_bmod_bmod]; exact i32_bm (by omega) (by omega)) (by omega) (by omega) | exact i32_in (by decide) (by decide)) (by (try simp (disch := omega) only [tS_1, tS_2, tA_1, tA_2, tF_1, tF_2, xl_0, xl_1, xl_2, Nat.reduceEqDiff, ↓reduceIte, nI_add, nI_1, nm_2, nm_3, nm_4, nm_6, nm_7, nm_8, nm_12, nm_16, nm_24, nm_40, nm_180, nm_300, nm_10210, na_0, na_2, na_3, na_4, na_5, na_6, na_7, na_8, nm_p, nm_m, nI_clamp, e1, e2, f2]); exact rfl) dX8_isSo_200 ?_
    refine x_if_lt (tgt := 231) hκ dX8_isSo_201 (by decide) (fun c201 => ?_) (fun c201 => ?_)
    · -- X8_isSo 201T
      have i201 := c201
      simp (disch := omega) only [i32_lt, i32_le, i32_eq, Int32.reduceToInt, nI_toInt] at i201
      refine x_iconst (v := 0) hκ dX8_isSo_231 (by decide) ?_
      refine t_retz hκ hr rfl dX8_isSo_232 (by first | exact Or.inl rfl | exact Or.inr rfl | assumption) ?_
      refine ⟨Tz0 ?_, rfl⟩
      rw [es14] at hs14
      rw [so, if_neg (by omega), if_neg (by omega), if_neg (by omega), if_neg (by omega), if_neg (by omega), if_neg (by omega), if_neg (by omega), if_neg (by omega)]
      omega
    · -- X8_isSo 201F
      have i201 := c201
      simp (disch := omega) only [i32_lt, i32_le, i32_eq, Int32.reduceToInt, nI_toInt] at i201
      obtain ⟨f3, f4⟩ := ix_10210 (x := σ.2 32 l) hb ⟨by omega, hr2⟩
      refine x_aload_n hκ dX8_isSo_204 rfl ?_
      refine t_getA hκ fl8_34 (by decide) (by decide) rfl dX8_isSo_205 ?_
      refine x_sipush (v := 10210) hκ dX8_isSo_208 (by decide) ?_
      refine x_aload_n hκ dX8_isSo_211 rfl ?_
      refine t_get hκ fl8_24 (by decide) (by decide) rfl (by (try simp (disch := omega) only [tS_1, tS_2, tA_1, tA_2, tF_1, tF_2, xl_0, xl_1, xl_2, Nat.reduceEqDiff, ↓reduceIte, nI_add, nI_1, nm_2, nm_3, nm_4, nm_6, nm_7, nm_8, nm_12, nm_16, nm_24, nm_40, nm_180, nm_300, nm_10210, na_0, na_2, na_3, na_4, na_5, na_6, na_7, na_8, nm_p, nm_m, nI_clamp, e1, e2, f2, f4]); exact rfl) dX8_isSo_212 ?_
      refine x_imulN hκ (by (try simp (disch := omega) only [tS_1, tS_2, tA_1, tA_2, tF_1, tF_2, xl_0, xl_1, xl_2, Nat.reduceEqDiff, ↓reduceIte, nI_add, nI_1, nm_2, nm_3, nm_4, nm_6, nm_7, nm_8, nm_12, nm_16, nm_24, nm_40, nm_180, nm_300, nm_10210, na_0, na_2, na_3, na_4, na_5, na_6, na_7, na_8, nm_p, nm_m, nI_clamp, e1, e2, f2, f4]); exact rfl) dX8_isSo_215 ?_
      refine x_aload_n hκ dX8_isSo_216 rfl ?_
      refine t_getA hκ fl8_32 (by decide) (by decide) rfl dX8_isSo_217 ?_
      refine x_iload_n hκ dX8_isSo_220 rfl ?_
      refine t_iald (n := 210) hκ hθ (by decide) rfl rfl (by first | ((with_reducible refine vp_in_nI ?_ ?_) <;> omega) | exact i32_in (by omega) (by omega) | exact i32_in' (by simp only [Int32.toInt_add, Int32.toInt_mul, Int32.toInt_sub, Int32.reduceToInt, Int.bmod_add_bmod, Int.bmod_sub_bmod, Int.add_bmod_bmod, Int.sub_bmod_bmod, Int.bmod_mul_bmod, Int.mul_bmod_bmod]; exact i32_bm (by omega) (by omega)) (by omega) (by omega) | exact i32_in (by decide) (by decide)) (by (try simp (disch := omega) only [tS_1, tS_2, tA_1, tA_2, tF_1, tF_2, xl_0, xl_1, xl_2, Nat.reduceEqDiff, ↓reduceIte, nI_add, nI_1, nm_2, nm_3, nm_4, nm_6, nm_7, nm_8, nm_12, nm_16, nm_24, nm_40, nm_180, nm_300, nm_10210, na_0, na_2, na_3, na_4, na_5, na_6, na_7, na_8, nm_p, nm_m, nI_clamp, e1, e2, f2, f4]); exact rfl) dX8_isSo_221 ?_
      refine x_iaddN hκ (by (try simp (disch := omega) only [tS_1, tS_2, tA_1, tA_2, tF_1, tF_2, xl_0, xl_1, xl_2, Nat.reduceEqDiff, ↓reduceIte, nI_add, nI_1, nm_2, nm_3, nm_4, nm_6, nm_7, nm_8, nm_12, nm_16, nm_24, nm_40, nm_180, nm_300, nm_10210, na_0, na_2, na_3, na_4, na_5, na_6, na_7, na_8, nm_p, nm_m, nI_clamp, e1, e2, f2, f4]); exact rfl) dX8_isSo_222 ?_
      refine t_zald (n := 30630) hκ hθ (by decide) rfl rfl (i32_in (by rw [f3]; omega) (by rw [f3]; omega)) (by (try simp (disch := omega) only [tS_1, tS_2, tA_1, tA_2, tF_1, tF_2, xl_0, xl_1, xl_2, Nat.reduceEqDiff, ↓reduceIte, nI_add, nI_1, nm_2, nm_3, nm_4, nm_6, nm_7, nm_8, nm_12, nm_16, nm_24, nm_40, nm_180, nm_300, nm_10210, na_0, na_2, na_3, na_4, na_5, na_6, na_7, na_8, nm_p, nm_m, nI_clamp, e1, e2, f2, f4]); exact rfl) dX8_isSo_223 ?_
      refine x_if_eq (tgt := 231) hκ dX8_isSo_224 (by decide) (fun c224 => ?_) (fun c224 => ?_)
      · -- X8_isSo 224T
        have i224 := c224
        simp (disch := omega) only [i32_lt, i32_le, i32_eq, Int32.reduceToInt, nI_toInt] at i224
        refine x_iconst (v := 0) hκ dX8_isSo_231 (by decide) ?_
        refine t_retz hκ hr rfl dX8_isSo_232 (by first | exact Or.inl rfl | exact Or.inr rfl | assumption) ?_
        refine ⟨Tz0 ?_, rfl⟩
        rw [es14] at hs14
        rw [so, if_neg (by omega), if_neg (by omega), if_neg (by omega), if_neg (by omega), if_neg (by omega), if_neg (by omega), if_neg (by omega), if_neg (by omega)]
        exact fun z => z.2 c224
      · -- X8_isSo 224F
        have i224 := c224
        simp (disch := omega) only [i32_lt, i32_le, i32_eq, Int32.reduceToInt, nI_toInt] at i224
        refine x_iconst (v := 1) hκ dX8_isSo_227 (by decide) ?_
        refine x_goto (tgt := 232) hκ dX8_isSo_228 (by decide) ?_
        refine t_retz hκ hr rfl dX8_isSo_232 (by first | exact Or.inl rfl | exact Or.inr rfl | assumption) ?_
        refine ⟨Tz1 ?_, rfl⟩
        rw [es14] at hs14
        rw [so, if_neg (by omega), if_neg (by omega), if_neg (by omega), if_neg (by omega), if_neg (by omega), if_neg (by omega), if_neg (by omega), if_neg (by omega)]
        exact ⟨by omega, c224⟩
  · rcases (show s14.toInt = 0 ∨ s14.toInt = 1 ∨ s14.toInt = 2 ∨ s14.toInt = 3 ∨ s14.toInt = 4 ∨ s14.toInt = 5 ∨ s14.toInt = 6 ∨ s14.toInt = 7 by omega) with e14 | e14 | e14 | e14 | e14 | e14 | e14 | e14
    · -- X8_isSo 14C0
      refine x_tableIn (off := 46) (tgt := 60) hκ dX8_isSo_14 (by rw [e14]; decide) (by rw [e14]; decide) (by rw [e14]; rfl) (by decide) ?_
      refine x_aload_n hκ dX8_isSo_60 rfl ?_
      refine t_getA hκ fl8_26 (by decide) (by decide) rfl dX8_isSo_61 ?_
      refine x_iload_n hκ dX8_isSo_64 rfl ?_
      refine t_iald (n := 210) hκ hθ (by decide) rfl rfl (by first | ((with_reducible refine vp_in_nI ?_ ?_) <;> omega) | exact i32_in (by omega) (by omega) | exact i32_in' (by simp only [Int32.toInt_add, Int32.toInt_mul, Int32.toInt_sub, Int32.reduceToInt, Int.bmod_add_bmod, Int.bmod_sub_bmod, Int.add_bmod_bmod, Int.sub_bmod_bmod, Int.bmod_mul_bmod, Int.mul_bmod_bmod]; exact i32_bm (by omega) (by omega)) (by omega) (by omega) | exact i32_in (by decide) (by decide)) (by (try simp (disch := omega) only [tS_1, tS_2, tA_1, tA_2, tF_1, tF_2, xl_0, xl_1, xl_2, Nat.reduceEqDiff, ↓reduceIte, nI_add, nI_1, nm_2, nm_3, nm_4, nm_6, nm_7, nm_8, nm_12, nm_16, nm_24, nm_40, nm_180, nm_300, nm_10210, na_0, na_2, na_3, na_4, na_5, na_6, na_7, na_8, nm_p, nm_m, nI_clamp, e1, e2, f2]); exact rfl) dX8_isSo_65 ?_
      refine x_iload_n hκ dX8_isSo_66 rfl ?_
      refine x_icmp_ne (tgt := 74) hκ dX8_isSo_67 (by decide) (fun c67 => ?_) (fun c67 => ?_)
      · -- X8_isSo 67T
        have i67 := c67
        simp (disch := omega) only [i32_lt, i32_le, i32_eq, Int32.reduceToInt, nI_toInt] at i67
        refine x_iconst (v := 0) hκ dX8_isSo_74 (by decide) ?_
        refine t_retz hκ hr rfl dX8_isSo_75 (by first | exact Or.inl rfl | exact Or.inr rfl | assumption) ?_
        refine ⟨Tz0 ?_, rfl⟩
        rw [es14] at e14
        rw [so, if_pos (by omega)]
        exact c67
      · -- X8_isSo 67F
        have i67 := c67
        simp (disch := omega) only [i32_lt, i32_le, i32_eq, Int32.reduceToInt, nI_toInt] at i67
        refine x_iconst (v := 1) hκ dX8_isSo_70 (by decide) ?_
        refine x_goto (tgt := 75) hκ dX8_isSo_71 (by decide) ?_
        refine t_retz hκ hr rfl dX8_isSo_75 (by first | exact Or.inl rfl | exact Or.inr rfl | assumption) ?_
        refine ⟨Tz1 ?_, rfl⟩
        rw [es14] at e14
        rw [so, if_pos (by omega)]
        exact c67
    · -- X8_isSo 14C1
      refine x_tableIn (off := 62) (tgt := 76) hκ dX8_isSo_14 (by rw [e14]; decide) (by rw [e14]; decide) (by rw [e14]; rfl) (by decide) ?_
      refine x_aload_n hκ dX8_isSo_76 rfl ?_
      refine t_getA hκ fl8_27 (by decide) (by decide) rfl dX8_isSo_77 ?_
      refine x_iload_n hκ dX8_isSo_80 rfl ?_
      refine t_iald (n := 210) hκ hθ (by decide) rfl rfl (by first | ((with_reducible refine vp_in_nI ?_ ?_) <;> omega) | exact i32_in (by omega) (by omega) | exact i32_in' (by simp only [Int32.toInt_add, Int32.toInt_mul, Int32.toInt_sub, Int32.reduceToInt, Int.bmod_add_bmod, Int.bmod_sub_bmod, Int.add_bmod_bmod, Int.sub_bmod_bmod, Int.bmod_mul_bmod, Int.mul_bmod_bmod]; exact i32_bm (by omega) (by omega)) (by omega) (by omega) | exact i32_in (by decide) (by decide)) (by (try simp (disch := omega) only [tS_1, tS_2, tA_1, tA_2, tF_1, tF_2, xl_0, xl_1, xl_2, Nat.reduceEqDiff, ↓reduceIte, nI_add, nI_1, nm_2, nm_3, nm_4, nm_6, nm_7, nm_8, nm_12, nm_16, nm_24, nm_40, nm_180, nm_300, nm_10210, na_0, na_2, na_3, na_4, na_5, na_6, na_7, na_8, nm_p, nm_m, nI_clamp, e1, e2, f2]); exact rfl) dX8_isSo_81 ?_
      refine x_iload_n hκ dX8_isSo_82 rfl ?_
      refine x_ishr hκ dX8_isSo_83 ?_
      refine x_iconst (v := 1) hκ dX8_isSo_84 (by decide) ?_
      refine x_iand hκ dX8_isSo_85 ?_
      refine x_iconst (v := 1) hκ dX8_isSo_86 (by decide) ?_
      refine x_icmp_ne (tgt := 94) hκ dX8_isSo_87 (by decide) (fun c87 => ?_) (fun c87 => ?_)
      · -- X8_isSo 87T
        have i87 := c87
        simp (disch := omega) only [i32_lt, i32_le, i32_eq, Int32.reduceToInt, nI_toInt] at i87
        refine x_iconst (v := 0) hκ dX8_isSo_94 (by decide) ?_
        refine t_retz hκ hr rfl dX8_isSo_95 (by first | exact Or.inl rfl | exact Or.inr rfl | assumption) ?_
        refine ⟨Tz0 ?_, rfl⟩
        rw [es14] at e14
        rw [so, if_neg (by omega), if_pos (by omega)]
        exact c87
      · -- X8_isSo 87F
        have i87 := c87
        simp (disch := omega) only [i32_lt, i32_le, i32_eq, Int32.reduceToInt, nI_toInt] at i87
        refine x_iconst (v := 1) hκ dX8_isSo_90 (by decide) ?_
        refine x_goto (tgt := 95) hκ dX8_isSo_91 (by decide) ?_
        refine t_retz hκ hr rfl dX8_isSo_95 (by first | exact Or.inl rfl | exact Or.inr rfl | assumption) ?_
        refine ⟨Tz1 ?_, rfl⟩
        rw [es14] at e14
        rw [so, if_neg (by omega), if_pos (by omega)]
        exact c87
    · -- X8_isSo 14C2
      refine x_tableIn (off := 82) (tgt := 96) hκ dX8_isSo_14 (by rw [e14]; decide) (by rw [e14]; decide) (by rw [e14]; rfl) (by decide) ?_
      refine x_aload_n hκ dX8_isSo_96 rfl ?_
      refine t_getA hκ fl8_28 (by decide) (by decide) rfl dX8_isSo_97 ?_
      refine x_iload_n hκ dX8_isSo_100 rfl ?_
      refine t_iald (n := 210) hκ hθ (by decide) rfl rfl (by first | ((with_reducible refine vp_in_nI ?_ ?_) <;> omega) | exact i32_in (by omega) (by omega) | exact i32_in' (by simp only [Int32.toInt_add, Int32.toInt_mul, Int32.toInt_sub, Int32.reduceToInt, Int.bmod_add_bmod, Int.bmod_sub_bmod, Int.add_bmod_bmod, Int.sub_bmod_bmod, Int.bmod_mul_bmod, Int.mul_bmod_bmod]; exact i32_bm (by omega) (by omega)) (by omega) (by omega) | exact i32_in (by decide) (by decide)) (by (try simp (disch := omega) only [tS_1, tS_2, tA_1, tA_2, tF_1, tF_2, xl_0, xl_1, xl_2, Nat.reduceEqDiff, ↓reduceIte, nI_add, nI_1, nm_2, nm_3, nm_4, nm_6, nm_7, nm_8, nm_12, nm_16, nm_24, nm_40, nm_180, nm_300, nm_10210, na_0, na_2, na_3, na_4, na_5, na_6, na_7, na_8, nm_p, nm_m, nI_clamp, e1, e2, f2]); exact rfl) dX8_isSo_101 ?_
      refine x_iload_n hκ dX8_isSo_102 rfl ?_
      refine x_ishr hκ dX8_isSo_103 ?_
      refine x_iconst (v := 1) hκ dX8_isSo_104 (by decide) ?_
      refine x_iand hκ dX8_isSo_105 ?_
      refine x_iconst (v := 1) hκ dX8_isSo_106 (by decide) ?_
      refine x_icmp_ne (tgt := 114) hκ dX8_isSo_107 (by decide) (fun c107 => ?_) (fun c107 => ?_)
      · -- X8_isSo 107T
        have i107 := c107
        simp (disch := omega) only [i32_lt, i32_le, i32_eq, Int32.reduceToInt, nI_toInt] at i107
        refine x_iconst (v := 0) hκ dX8_isSo_114 (by decide) ?_
        refine t_retz hκ hr rfl dX8_isSo_115 (by first | exact Or.inl rfl | exact Or.inr rfl | assumption) ?_
        refine ⟨Tz0 ?_, rfl⟩
        rw [es14] at e14
        rw [so, if_neg (by omega), if_neg (by omega), if_pos (by omega)]
        exact c107
      · -- X8_isSo 107F
        have i107 := c107
        simp (disch := omega) only [i32_lt, i32_le, i32_eq, Int32.reduceToInt, nI_toInt] at i107
        refine x_iconst (v := 1) hκ dX8_isSo_110 (by decide) ?_
        refine x_goto (tgt := 115) hκ dX8_isSo_111 (by decide) ?_
        refine t_retz hκ hr rfl dX8_isSo_115 (by first | exact Or.inl rfl | exact Or.inr rfl | assumption) ?_
        refine ⟨Tz1 ?_, rfl⟩
        rw [es14] at e14
        rw [so, if_neg (by omega), if_neg (by omega), if_pos (by omega)]
        exact c107
    · -- X8_isSo 14C3
      refine x_tableIn (off := 102) (tgt := 116) hκ dX8_isSo_14 (by rw [e14]; decide) (by rw [e14]; decide) (by rw [e14]; rfl) (by decide) ?_
      refine x_aload_n hκ dX8_isSo_116 rfl ?_
      refine t_getA hκ fl8_29 (by decide) (by decide) rfl dX8_isSo_117 ?_
      refine x_iload_n hκ dX8_isSo_120 rfl ?_
      refine t_iald (n := 210) hκ hθ (by decide) rfl rfl (by first | ((with_reducible refine vp_in_nI ?_ ?_) <;> omega) | exact i32_in (by omega) (by omega) | exact i32_in' (by simp only [Int32.toInt_add, Int32.toInt_mul, Int32.toInt_sub, Int32.reduceToInt, Int.bmod_add_bmod, Int.bmod_sub_bmod, Int.add_bmod_bmod, Int.sub_bmod_bmod, Int.bmod_mul_bmod, Int.mul_bmod_bmod]; exact i32_bm (by omega) (by omega)) (by omega) (by omega) | exact i32_in (by decide) (by decide)) (by (try simp (disch := omega) only [tS_1, tS_2, tA_1, tA_2, tF_1, tF_2, xl_0, xl_1, xl_2, Nat.reduceEqDiff, ↓reduceIte, nI_add, nI_1, nm_2, nm_3, nm_4, nm_6, nm_7, nm_8, nm_12, nm_16, nm_24, nm_40, nm_180, nm_300, nm_10210, na_0, na_2, na_3, na_4, na_5, na_6, na_7, na_8, nm_p, nm_m, nI_clamp, e1, e2, f2]); exact rfl) dX8_isSo_121 ?_
      refine x_iload_n hκ dX8_isSo_122 rfl ?_
      refine x_icmp_le (tgt := 130) hκ dX8_isSo_123 (by decide) (fun c123 => ?_) (fun c123 => ?_)
      · -- X8_isSo 123T
        have i123 := c123
        simp (disch := omega) only [i32_lt, i32_le, i32_eq, Int32.reduceToInt, nI_toInt] at i123
        refine x_iconst (v := 0) hκ dX8_isSo_130 (by decide) ?_
        refine t_retz hκ hr rfl dX8_isSo_131 (by first | exact Or.inl rfl | exact Or.inr rfl | assumption) ?_
        refine ⟨Tz0 ?_, rfl⟩
        rw [es14] at e14
        rw [so, if_neg (by omega), if_neg (by omega), if_neg (by omega), if_pos (by omega)]
        intro z
        rw [i32_lt] at z
        rw [i32_le] at c123
        omega
      · -- X8_isSo 123F
        have i123 := c123
        simp (disch := omega) only [i32_lt, i32_le, i32_eq, Int32.reduceToInt, nI_toInt] at i123
        refine x_iconst (v := 1) hκ dX8_isSo_126 (by decide) ?_
        refine x_goto (tgt := 131) hκ dX8_isSo_127 (by decide) ?_
        refine t_retz hκ hr rfl dX8_isSo_131 (by first | exact Or.inl rfl | exact Or.inr rfl | assumption) ?_
        refine ⟨Tz1 ?_, rfl⟩
        rw [es14] at e14
        rw [so, if_neg (by omega), if_neg (by omega), if_neg (by omega), if_pos (by omega)]
        rw [i32_lt]
        rw [i32_le] at c123
        omega
    · -- X8_isSo 14C4
      refine x_tableIn (off := 118) (tgt := 132) hκ dX8_isSo_14 (by rw [e14]; decide) (by rw [e14]; decide) (by rw [e14]; rfl) (by decide) ?_
      refine x_aload_n hκ dX8_isSo_132 rfl ?_
      refine t_getA hκ fl8_30 (by decide) (by decide) rfl dX8_isSo_133 ?_
      refine x_iload_n hκ dX8_isSo_136 rfl ?_
      refine t_iald (n := 210) hκ hθ (by decide) rfl rfl (by first | ((with_reducible refine vp_in_nI ?_ ?_) <;> omega) | exact i32_in (by omega) (by omega) | exact i32_in' (by simp only [Int32.toInt_add, Int32.toInt_mul, Int32.toInt_sub, Int32.reduceToInt, Int.bmod_add_bmod, Int.bmod_sub_bmod, Int.add_bmod_bmod, Int.sub_bmod_bmod, Int.bmod_mul_bmod, Int.mul_bmod_bmod]; exact i32_bm (by omega) (by omega)) (by omega) (by omega) | exact i32_in (by decide) (by decide)) (by (try simp (disch := omega) only [tS_1, tS_2, tA_1, tA_2, tF_1, tF_2, xl_0, xl_1, xl_2, Nat.reduceEqDiff, ↓reduceIte, nI_add, nI_1, nm_2, nm_3, nm_4, nm_6, nm_7, nm_8, nm_12, nm_16, nm_24, nm_40, nm_180, nm_300, nm_10210, na_0, na_2, na_3, na_4, na_5, na_6, na_7, na_8, nm_p, nm_m, nI_clamp, e1, e2, f2]); exact rfl) dX8_isSo_137 ?_
      refine x_iconst (v := 1) hκ dX8_isSo_138 (by decide) ?_
      refine x_iand hκ dX8_isSo_139 ?_
      refine x_iconst (v := 1) hκ dX8_isSo_140 (by decide) ?_
      refine x_icmp_ne (tgt := 148) hκ dX8_isSo_141 (by decide) (fun c141 => ?_) (fun c141 => ?_)
      · -- X8_isSo 141T
        have i141 := c141
        simp (disch := omega) only [i32_lt, i32_le, i32_eq, Int32.reduceToInt, nI_toInt] at i141
        refine x_iconst (v := 0) hκ dX8_isSo_148 (by decide) ?_
        refine t_retz hκ hr rfl dX8_isSo_149 (by first | exact Or.inl rfl | exact Or.inr rfl | assumption) ?_
        refine ⟨Tz0 ?_, rfl⟩
        rw [es14] at e14
        rw [so, if_neg (by omega), if_neg (by omega), if_neg (by omega), if_neg (by omega), if_pos (by omega)]
        exact c141
      · -- X8_isSo 141F
        have i141 := c141
        simp (disch := omega) only [i32_lt, i32_le, i32_eq, Int32.reduceToInt, nI_toInt] at i141
        refine x_iconst (v := 1) hκ dX8_isSo_144 (by decide) ?_
        refine x_goto (tgt := 149) hκ dX8_isSo_145 (by decide) ?_
        refine t_retz hκ hr rfl dX8_isSo_149 (by first | exact Or.inl rfl | exact Or.inr rfl | assumption) ?_
        refine ⟨Tz1 ?_, rfl⟩
        rw [es14] at e14
        rw [so, if_neg (by omega), if_neg (by omega), if_neg (by omega), if_neg (by omega), if_pos (by omega)]
        exact c141
    · -- X8_isSo 14C5
      refine x_tableIn (off := 136) (tgt := 150) hκ dX8_isSo_14 (by rw [e14]; decide) (by rw [e14]; decide) (by rw [e14]; rfl) (by decide) ?_
      refine x_aload_n hκ dX8_isSo_150 rfl ?_
      refine t_getA hκ fl8_30 (by decide) (by decide) rfl dX8_isSo_151 ?_
      refine x_iload_n hκ dX8_isSo_154 rfl ?_
      refine t_iald (n := 210) hκ hθ (by decide) rfl rfl (by first | ((with_reducible refine vp_in_nI ?_ ?_) <;> omega) | exact i32_in (by omega) (by omega) | exact i32_in' (by simp only [Int32.toInt_add, Int32.toInt_mul, Int32.toInt_sub, Int32.reduceToInt, Int.bmod_add_bmod, Int.bmod_sub_bmod, Int.add_bmod_bmod, Int.sub_bmod_bmod, Int.bmod_mul_bmod, Int.mul_bmod_bmod]; exact i32_bm (by omega) (by omega)) (by omega) (by omega) | exact i32_in (by decide) (by decide)) (by (try simp (disch := omega) only [tS_1, tS_2, tA_1, tA_2, tF_1, tF_2, xl_0, xl_1, xl_2, Nat.reduceEqDiff, ↓reduceIte, nI_add, nI_1, nm_2, nm_3, nm_4, nm_6, nm_7, nm_8, nm_12, nm_16, nm_24, nm_40, nm_180, nm_300, nm_10210, na_0, na_2, na_3, na_4, na_5, na_6, na_7, na_8, nm_p, nm_m, nI_clamp, e1, e2, f2]); exact rfl) dX8_isSo_155 ?_
      refine x_iconst (v := 2) hκ dX8_isSo_156 (by decide) ?_
      refine x_iand hκ dX8_isSo_157 ?_
      refine x_iconst (v := 2) hκ dX8_isSo_158 (by decide) ?_
      refine x_icmp_ne (tgt := 166) hκ dX8_isSo_159 (by decide) (fun c159 => ?_) (fun c159 => ?_)
      · -- X8_isSo 159T
        have i159 := c159
        simp (disch := omega) only [i32_lt, i32_le, i32_eq, Int32.reduceToInt, nI_toInt] at i159
        refine x_iconst (v := 0) hκ dX8_isSo_166 (by decide) ?_
        refine t_retz hκ hr rfl dX8_isSo_167 (by first | exact Or.inl rfl | exact Or.inr rfl | assumption) ?_
        refine ⟨Tz0 ?_, rfl⟩
        rw [es14] at e14
        rw [so, if_neg (by omega), if_neg (by omega), if_neg (by omega), if_neg (by omega), if_neg (by omega), if_pos (by omega)]
        exact c159
      · -- X8_isSo 159F
        have i159 := c159
        simp (disch := omega) only [i32_lt, i32_le, i32_eq, Int32.reduceToInt, nI_toInt] at i159
        refine x_iconst (v := 1) hκ dX8_isSo_162 (by decide) ?_
        refine x_goto (tgt := 167) hκ dX8_isSo_163 (by decide) ?_
        refine t_retz hκ hr rfl dX8_isSo_167 (by first | exact Or.inl rfl | exact Or.inr rfl | assumption) ?_
        refine ⟨Tz1 ?_, rfl⟩
        rw [es14] at e14
        rw [so, if_neg (by omega), if_neg (by omega), if_neg (by omega), if_neg (by omega), if_neg (by omega), if_pos (by omega)]
        exact c159
    · -- X8_isSo 14C6
      refine x_tableIn (off := 154) (tgt := 168) hκ dX8_isSo_14 (by rw [e14]; decide) (by rw [e14]; decide) (by rw [e14]; rfl) (by decide) ?_
      refine x_aload_n hκ dX8_isSo_168 rfl ?_
      refine x_iload_n hκ dX8_isSo_169 rfl ?_
      refine t_callR hκ (mX8_isJunk hθ (by rw [nI_toInt (by omega)]; omega)) (by omega) (by decide) wX8_212 aX8_isJunk rfl (Nat.le_of_ble_eq_true rfl) dX8_isSo_170 (fun r170 h170 => ?_)
      refine t_retz hκ hr rfl dX8_isSo_173 h170.b ?_
      refine ⟨h170.iff ?_, rfl⟩
      rw [es14] at e14
      rw [so, if_neg (by omega), if_neg (by omega), if_neg (by omega), if_neg (by omega), if_neg (by omega), if_neg (by omega), if_pos (by omega), nI_clamp (by omega)]
    · -- X8_isSo 14C7
      refine x_tableIn (off := 160) (tgt := 174) hκ dX8_isSo_14 (by rw [e14]; decide) (by rw [e14]; decide) (by rw [e14]; rfl) (by decide) ?_
      refine x_aload_n hκ dX8_isSo_174 rfl ?_
      refine t_getA hκ fl8_34 (by decide) (by decide) rfl dX8_isSo_175 ?_
      refine x_sipush (v := 10210) hκ dX8_isSo_178 (by decide) ?_
      refine x_aload_n hκ dX8_isSo_181 rfl ?_
      refine t_get hκ fl8_24 (by decide) (by decide) rfl (by (try simp (disch := omega) only [tS_1, tS_2, tA_1, tA_2, tF_1, tF_2, xl_0, xl_1, xl_2, Nat.reduceEqDiff, ↓reduceIte, nI_add, nI_1, nm_2, nm_3, nm_4, nm_6, nm_7, nm_8, nm_12, nm_16, nm_24, nm_40, nm_180, nm_300, nm_10210, na_0, na_2, na_3, na_4, na_5, na_6, na_7, na_8, nm_p, nm_m, nI_clamp, e1, e2, f2]); exact rfl) dX8_isSo_182 ?_
      refine x_imulN hκ (by (try simp (disch := omega) only [tS_1, tS_2, tA_1, tA_2, tF_1, tF_2, xl_0, xl_1, xl_2, Nat.reduceEqDiff, ↓reduceIte, nI_add, nI_1, nm_2, nm_3, nm_4, nm_6, nm_7, nm_8, nm_12, nm_16, nm_24, nm_40, nm_180, nm_300, nm_10210, na_0, na_2, na_3, na_4, na_5, na_6, na_7, na_8, nm_p, nm_m, nI_clamp, e1, e2, f2]); exact rfl) dX8_isSo_185 ?_
      refine x_aload_n hκ dX8_isSo_186 rfl ?_
      refine t_getA hκ fl8_31 (by decide) (by decide) rfl dX8_isSo_187 ?_
      refine x_iload_n hκ dX8_isSo_190 rfl ?_
      refine t_iald (n := 210) hκ hθ (by decide) rfl rfl (by first | ((with_reducible refine vp_in_nI ?_ ?_) <;> omega) | exact i32_in (by omega) (by omega) | exact i32_in' (by simp only [Int32.toInt_add, Int32.toInt_mul, Int32.toInt_sub, Int32.reduceToInt, Int.bmod_add_bmod, Int.bmod_sub_bmod, Int.add_bmod_bmod, Int.sub_bmod_bmod, Int.bmod_mul_bmod, Int.mul_bmod_bmod]; exact i32_bm (by omega) (by omega)) (by omega) (by omega) | exact i32_in (by decide) (by decide)) (by (try simp (disch := omega) only [tS_1, tS_2, tA_1, tA_2, tF_1, tF_2, xl_0, xl_1, xl_2, Nat.reduceEqDiff, ↓reduceIte, nI_add, nI_1, nm_2, nm_3, nm_4, nm_6, nm_7, nm_8, nm_12, nm_16, nm_24, nm_40, nm_180, nm_300, nm_10210, na_0, na_2, na_3, na_4, na_5, na_6, na_7, na_8, nm_p, nm_m, nI_clamp, e1, e2, f2]); exact rfl) dX8_isSo_191 ?_
      refine x_iaddN hκ (by (try simp (disch := omega) only [tS_1, tS_2, tA_1, tA_2, tF_1, tF_2, xl_0, xl_1, xl_2, Nat.reduceEqDiff, ↓reduceIte, nI_add, nI_1, nm_2, nm_3, nm_4, nm_6, nm_7, nm_8, nm_12, nm_16, nm_24, nm_40, nm_180, nm_300, nm_10210, na_0, na_2, na_3, na_4, na_5, na_6, na_7, na_8, nm_p, nm_m, nI_clamp, e1, e2, f2]); exact rfl) dX8_isSo_192 ?_
      refine t_zald (n := 30630) hκ hθ (by decide) rfl rfl (i32_in (by rw [f1]; omega) (by rw [f1]; omega)) (by (try simp (disch := omega) only [tS_1, tS_2, tA_1, tA_2, tF_1, tF_2, xl_0, xl_1, xl_2, Nat.reduceEqDiff, ↓reduceIte, nI_add, nI_1, nm_2, nm_3, nm_4, nm_6, nm_7, nm_8, nm_12, nm_16, nm_24, nm_40, nm_180, nm_300, nm_10210, na_0, na_2, na_3, na_4, na_5, na_6, na_7, na_8, nm_p, nm_m, nI_clamp, e1, e2, f2]); exact rfl) dX8_isSo_193 ?_
      refine t_retz hκ hr rfl dX8_isSo_194 (hh _) ?_
      refine ⟨?_, rfl⟩
      rw [es14] at e14
      rw [so, if_neg (by omega), if_neg (by omega), if_neg (by omega), if_neg (by omega), if_neg (by omega), if_neg (by omega), if_neg (by omega), if_pos (by omega)]
      rcases hh (10210 * b + Int32.toNatClampNeg (σ.2 31 l)) with z | z
      · rw [z]; exact Tz0 (fun q => q rfl)
      · rw [z]; exact Tz1 (by decide)
