theorem wX8_275 : GoodIn lw_all (wsV RX8 275 RX8 yX8_put_2 (ws_ yX8_put_2 cX8_put_2 6 none)) := lw_V q1491 q1493 qs58 q82 q1494
theorem aX8_put_2 : yX8_put_2.cls = RX8 ∧ yX8_put_2.cls ≠ "java/lang/invoke/MethodHandle" ∧ yX8_put_2.cls ≠ "java/lang/invoke/VarHandle" ∧ (parseMethodDescriptor yX8_put_2.desc).map (fun d => d.parameters.length) = some 4 := by decide +kernel
theorem wX8_305 : GoodIn lw_all (va_wsS RX8 305 yX8_isSheet (ws_ yX8_isSheet cX8_isSheet 1 (some .boolean))) := lw_S q1499 q1500 q82 q1501
theorem aX8_isSheet : yX8_isSheet.cls ≠ "java/lang/invoke/MethodHandle" ∧ yX8_isSheet.cls ≠ "java/lang/invoke/VarHandle" ∧ (parseMethodDescriptor yX8_isSheet.desc).map (fun d => d.parameters.length) = some 1 := by decide +kernel
/-! the reference: moving, sheets -/
def shf (f : Nat → Int32) (p n : Nat) : Nat → Int32 := fun j => if p ≤ j ∧ j < p + n then f (j + 1) else f j
theorem shf_s {f : Nat → Int32} {p n : Nat} : upd (shf f p n) (p + n) (shf f p n (p + n + 1)) = shf f p (n + 1) := by
  funext j
  unfold upd shf
  by_cases h : j = p + n
  · subst h
    rw [if_pos rfl, if_neg (by omega), if_pos (by omega)]
  · rw [if_neg h]
    by_cases h2 : p ≤ j ∧ j < p + n
    · rw [if_pos h2, if_pos (by omega)]
    · rw [if_neg h2, if_neg (by omega)]
theorem shf_0 {f : Nat → Int32} {p : Nat} : shf f p 0 = f := by
  funext j
  unfold shf
  rw [if_neg (by omega)]
/-- three arrays shifted -/
def shS (σ : TS) (p n : Nat) : TS := tF (tF (tF σ 41 (shf (σ.2 41) p n)) 42 (shf (σ.2 42) p n)) 43 (shf (σ.2 43) p n)
theorem shS_0 (σ : TS) (p : Nat) : shS σ p 0 = σ := by
  unfold shS
  rw [shf_0, shf_0, shf_0, tF_self]
  have h1 : (tF σ 42 (σ.2 42)) = σ := tF_self σ 42
  rw [h1, tF_self]
theorem shS_s (σ : TS) (p n : Nat) (a b c : Int32) (ha : a = shf (σ.2 41) p n (p + n + 1)) (hb : b = shf (σ.2 42) p n (p + n + 1)) (hc : c = shf (σ.2 43) p n (p + n + 1)) : tA (tA (tA (shS σ p n) 41 (p + n) a) 42 (p + n) b) 43 (p + n) c = shS σ p (n + 1) := by
  subst ha; subst hb; subst hc
  refine Prod.ext rfl ?_
  funext j
  simp only [shS, tA_2, tF_2]
  by_cases h1 : j = 43
  · subst h1
    simp only [Nat.reduceEqDiff, ↓reduceIte]
    exact shf_s
  · by_cases h2 : j = 42
    · subst h2
      simp only [Nat.reduceEqDiff, ↓reduceIte]
      exact shf_s
    · by_cases h3 : j = 41
      · subst h3
        simp only [Nat.reduceEqDiff, ↓reduceIte]
        exact shf_s
      · simp only [h1, h2, h3, ↓reduceIte]
/-- a copy leaves a tray -/
def mvS (σ : TS) (a i b : Nat) : TS := putC (shS (tA σ 40 a (σ.2 40 a - 1)) (300 * a + i) (Int32.toNatClampNeg (σ.2 40 a) - 1 - i)) b (σ.2 41 (300 * a + i)) (σ.2 42 (300 * a + i)) (σ.2 43 (300 * a + i))
theorem mX8_move {E : gE} {θ : TA} (hθ : tOk θ) {σ : TS} (hT : TIt σ) (hM : ∀ j : Nat, σ.2 42 j = 0 ∨ σ.2 42 j = 1) {b t i o : Int32} : TMi E θ σ yX8_move cX8_move 11 .int 4 [.int b, .int t, .int i, .int o] (fun r σ' => (r, σ') = if isCp σ b t i ∧ 0 ≤ o.toInt ∧ o.toInt ≤ 3 then (if (0 < o.toInt ∧ o ≠ t) ∧ (σ.2 7 (Int32.toNatClampNeg (4 * b + o))).toInt ≤ (σ.2 40 (Int32.toNatClampNeg (4 * b + o))).toInt then (-3, σ) else ((mvS σ (Int32.toNatClampNeg (4 * b + t)) (Int32.toNatClampNeg i) (Int32.toNatClampNeg (4 * b + o))).2 40 (Int32.toNatClampNeg (4 * b + o)), mvS σ (Int32.toNatClampNeg (4 * b + t)) (Int32.toNatClampNeg i) (Int32.toNatClampNeg (4 * b + o)))) else (-1, σ)) := by
  refine TMi.of (by decide) (Nat.le_of_ble_eq_true rfl) ?_
  rintro κ rfl hL hκ hr
  have main : isCp σ b t i → 0 ≤ o.toInt ∧ o.toInt ≤ 3 → ¬ ((0 < o.toInt ∧ o ≠ t) ∧ (σ.2 7 (Int32.toNatClampNeg (4 * b + o))).toInt ≤ (σ.2 40 (Int32.toNatClampNeg (4 * b + o))).toInt) → X κ (tG (kE κ) θ σ) 0 0 66 [some (.ref θ.1), some (.int b), some (.int t), some (.int i), some (.int o), some (.int (4 * b + t)), some (.int (4 * b + o)), none, none, none, none] [] := by
    intro h1 h2 h3
    obtain ⟨f1, f2, f3, f4, f5⟩ := ix_300 hT h1
    have f6 : ca b t i = 300 * Int32.toNatClampNeg (4 * b + t) + Int32.toNatClampNeg i := rfl
    have g1 := ix_4 h1.1.1 h2
    have g2 : Int32.toNatClampNeg (4 * b + o) < 12 := by show (4 * b + o).toInt.toNat < 12; omega
    have g3 := hT _ f4
    have g4 := hT _ g2
    have g5 := ix_4 h1.1.1 h1.1.2
    have g6 : ((Int32.toNatClampNeg (4 * b + t) : Nat) : Int) = (4 * b + t).toInt := by show (((4 * b + t).toInt.toNat : Nat) : Int) = _; omega
    have g7 : ((Int32.toNatClampNeg (σ.2 40 (Int32.toNatClampNeg (4 * b + t))) : Nat) : Int) = (σ.2 40 (Int32.toNatClampNeg (4 * b + t))).toInt := by show (((σ.2 40 (Int32.toNatClampNeg (4 * b + t))).toInt.toNat : Nat) : Int) = _; omega
    have g8 : (σ.2 40 (Int32.toNatClampNeg (4 * b + t)) - 1).toInt = (σ.2 40 (Int32.toNatClampNeg (4 * b + t))).toInt - 1 := i32_sub (by simp only [Int32.reduceToInt]; omega) (by simp only [Int32.reduceToInt]; omega)
    have g9 : (300 * (4 * b + t) + (σ.2 40 (Int32.toNatClampNeg (4 * b + t)) - 1)).toInt = 300 * (4 * b + t).toInt + ((σ.2 40 (Int32.toNatClampNeg (4 * b + t))).toInt - 1) := by
      rw [Int32.toInt_add, Int32.toInt_mul, g8]
      simp only [Int32.reduceToInt, Int.bmod_add_bmod]
      exact i32_bm (by omega) (by omega)
    generalize hσ1 : tA σ 40 (Int32.toNatClampNeg (4 * b + t)) (σ.2 40 (Int32.toNatClampNeg (4 * b + t)) - 1) = σ1
    have s40 : σ1.2 40 (Int32.toNatClampNeg (4 * b + t)) = σ.2 40 (Int32.toNatClampNeg (4 * b + t)) - 1 := by rw [← hσ1]; simp only [tA_2, ↓reduceIte, upd]
    have s41 : σ1.2 41 = σ.2 41 := by rw [← hσ1]; rfl
    have s42 : σ1.2 42 = σ.2 42 := by rw [← hσ1]; rfl
    have s43 : σ1.2 43 = σ.2 43 := by rw [← hσ1]; rfl
    have loop : ∀ (n j : Nat), j ≤ Int32.toNatClampNeg (σ.2 40 (Int32.toNatClampNeg (4 * b + t))) - 1 - Int32.toNatClampNeg i → Int32.toNatClampNeg (σ.2 40 (Int32.toNatClampNeg (4 * b + t))) - 1 - Int32.toNatClampNeg i - j < n → X κ (tG (kE κ) θ (shS σ1 (ca b t i) j)) 0 0 132 [some (.ref θ.1), some (.int b), some (.int t), some (.int i), some (.int o), some (.int (4 * b + t)), some (.int (4 * b + o)), some (.int (σ.2 41 (ca b t i))), some (.int (σ.2 42 (ca b t i))), some (.int (σ.2 43 (ca b t i))), some (.int (nI (ca b t i + j)))] [] := by
      intro n
      induction n with
      | zero => intro j q1 q2; exact absurd q2 (Nat.not_lt_zero _)
      | succ n ih =>
        intro j hj hn
        have q1 := nI_toInt (n := ca b t i + j) (by omega)
        have q2 := nI_clamp (n := ca b t i + j) (by omega)
        have q3 := nI_clamp (n := ca b t i + j + 1) (by omega)
        have q4 := nI_toInt (n := ca b t i + j + 1) (by omega)
        have q5 : (shS σ1 (ca b t i) j).2 40 = σ1.2 40 := rfl
        have q6 : (shS σ1 (ca b t i) j).2 41 = shf (σ1.2 41) (ca b t i) j := rfl
        have q7 : (shS σ1 (ca b t i) j).2 42 = shf (σ1.2 42) (ca b t i) j := rfl
        have q8 : (shS σ1 (ca b t i) j).2 43 = shf (σ1.2 43) (ca b t i) j := rfl
        refine x_iload hκ dX8_move_132 rfl ?_
        refine x_sipush (v := 300) hκ dX8_move_134 (by decide) ?_
        refine x_iload hκ dX8_move_137 rfl ?_
        refine x_imulN hκ (by (try simp (disch := omega) only [tS_1, tS_2, tA_1, tA_2, tF_1, tF_2, xl_0, xl_1, xl_2, Nat.reduceEqDiff, ↓reduceIte, nI_add, nI_1, nm_2, nm_3, nm_4, nm_6, nm_7, nm_8, nm_12, nm_16, nm_24, nm_40, nm_180, nm_300, nm_10210, na_0, na_2, na_3, na_4, na_5, na_6, na_7, na_8, nm_p, nm_m, nI_clamp, q2, q3, q5, q6, q7, q8, s40]); exact rfl) dX8_move_139 ?_
        refine x_aload_n hκ dX8_move_140 rfl ?_
        refine t_getA hκ fl8_40 (by decide) (by decide) rfl dX8_move_141 ?_
        refine x_iload hκ dX8_move_144 rfl ?_
        refine t_iald (n := 12) hκ hθ (by decide) rfl rfl (by first | ((with_reducible refine vp_in_nI ?_ ?_) <;> omega) | exact i32_in (by omega) (by omega) | exact i32_in' (by simp only [Int32.toInt_add, Int32.toInt_mul, Int32.toInt_sub, Int32.reduceToInt, Int.bmod_add_bmod, Int.bmod_sub_bmod, Int.add_bmod_bmod, Int.sub_bmod_bmod, Int.bmod_mul_bmod, Int.mul_bmod_bmod]; exact i32_bm (by omega) (by omega)) (by omega) (by omega) | exact i32_in (by decide) (by decide)) (by (try simp (disch := omega) only [tS_1, tS_2, tA_1, tA_2, tF_1, tF_2, xl_0, xl_1, xl_2, Nat.reduceEqDiff, ↓reduceIte, nI_add, nI_1, nm_2, nm_3, nm_4, nm_6, nm_7, nm_8, nm_12, nm_16, nm_24, nm_40, nm_180, nm_300, nm_10210, na_0, na_2, na_3, na_4, na_5, na_6, na_7, na_8, nm_p, nm_m, nI_clamp, q2, q3, q5, q6, q7, q8, s40]); exact rfl) dX8_move_146 ?_
        refine x_iaddN hκ (by (try simp (disch := omega) only [tS_1, tS_2, tA_1, tA_2, tF_1, tF_2, xl_0, xl_1, xl_2, Nat.reduceEqDiff, ↓reduceIte, nI_add, nI_1, nm_2, nm_3, nm_4, nm_6, nm_7, nm_8, nm_12, nm_16, nm_24, nm_40, nm_180, nm_300, nm_10210, na_0, na_2, na_3, na_4, na_5, na_6, na_7, na_8, nm_p, nm_m, nI_clamp, q2, q3, q5, q6, q7, q8, s40]); exact rfl) dX8_move_147 ?_
        refine x_topi (fun z148 e148 => ?_)
        have e148i : z148.toInt = 300 * (4 * b + t).toInt + ((σ.2 40 (Int32.toNatClampNeg (4 * b + t))).toInt - 1) := by rw [e148]; exact g9
        refine x_icmp_ge (tgt := 205) hκ dX8_move_148 (by decide) (fun c148 => ?_) (fun c148 => ?_)
        · -- X8_move 148T
          have i148 := c148
          simp (disch := omega) only [i32_lt, i32_le, i32_eq, Int32.reduceToInt, nI_toInt] at i148
          refine x_aload_n hκ dX8_move_205 rfl ?_
          refine x_iload hκ dX8_move_206 rfl ?_
          refine x_iload hκ dX8_move_208 rfl ?_
          refine x_iload hκ dX8_move_210 rfl ?_
          refine x_iload hκ dX8_move_212 rfl ?_
          refine t_callv hκ (mX8_put_2 hθ (by omega) (by show 0 ≤ (σ1.2 40 _).toInt ∧ (σ1.2 40 _).toInt ≤ 299; rw [← hσ1, tA_2, if_pos rfl]; unfold upd; split <;> omega) (hM _)) (by omega) (by decide) wX8_275 aX8_put_2 rfl (Nat.le_of_ble_eq_true rfl) dX8_move_214 (fun σ214 h214 => ?_)
          subst h214
          refine x_aload_n hκ dX8_move_217 rfl ?_
          refine t_getA hκ fl8_40 (by decide) (by decide) rfl dX8_move_218 ?_
          refine x_iload hκ dX8_move_221 rfl ?_
          refine t_iald (n := 12) hκ hθ (by decide) rfl rfl (by first | ((with_reducible refine vp_in_nI ?_ ?_) <;> omega) | exact i32_in (by omega) (by omega) | exact i32_in' (by simp only [Int32.toInt_add, Int32.toInt_mul, Int32.toInt_sub, Int32.reduceToInt, Int.bmod_add_bmod, Int.bmod_sub_bmod, Int.add_bmod_bmod, Int.sub_bmod_bmod, Int.bmod_mul_bmod, Int.mul_bmod_bmod]; exact i32_bm (by omega) (by omega)) (by omega) (by omega) | exact i32_in (by decide) (by decide)) (by (try simp (disch := omega) only [tS_1, tS_2, tA_1, tA_2, tF_1, tF_2, xl_0, xl_1, xl_2, Nat.reduceEqDiff, ↓reduceIte, nI_add, nI_1, nm_2, nm_3, nm_4, nm_6, nm_7, nm_8, nm_12, nm_16, nm_24, nm_40, nm_180, nm_300, nm_10210, na_0, na_2, na_3, na_4, na_5, na_6, na_7, na_8, nm_p, nm_m, nI_clamp, q2, q3, q5, q6, q7, q8, s40]); exact rfl) dX8_move_223 ?_
          refine t_reti hκ hr rfl dX8_move_224 ?_
          obtain rfl : j = Int32.toNatClampNeg (σ.2 40 (Int32.toNatClampNeg (4 * b + t))) - 1 - Int32.toNatClampNeg i := by omega
          rw [if_pos ⟨h1, h2⟩, if_neg h3]
          unfold mvS
          rw [hσ1]
        · -- X8_move 148F
          have i148 := c148
          simp (disch := omega) only [i32_lt, i32_le, i32_eq, Int32.reduceToInt, nI_toInt] at i148
          refine x_aload_n hκ dX8_move_151 rfl ?_
          refine t_getA hκ fl8_41 (by decide) (by decide) rfl dX8_move_152 ?_
          refine x_iload hκ dX8_move_155 rfl ?_
          refine x_aload_n hκ dX8_move_157 rfl ?_
          refine t_getA hκ fl8_41 (by decide) (by decide) rfl dX8_move_158 ?_
          refine x_iload hκ dX8_move_161 rfl ?_
          refine x_iconst (v := 1) hκ dX8_move_163 (by decide) ?_
          refine x_iaddN hκ (by (try simp (disch := omega) only [tS_1, tS_2, tA_1, tA_2, tF_1, tF_2, xl_0, xl_1, xl_2, Nat.reduceEqDiff, ↓reduceIte, nI_add, nI_1, nm_2, nm_3, nm_4, nm_6, nm_7, nm_8, nm_12, nm_16, nm_24, nm_40, nm_180, nm_300, nm_10210, na_0, na_2, na_3, na_4, na_5, na_6, na_7, na_8, nm_p, nm_m, nI_clamp, q2, q3, q5, q6, q7, q8, s40]); exact rfl) dX8_move_164 ?_
          refine t_iald (n := 3600) hκ hθ (by decide) rfl rfl (i32_in (by omega) (by omega)) (by (try simp (disch := omega) only [tS_1, tS_2, tA_1, tA_2, tF_1, tF_2, xl_0, xl_1, xl_2, Nat.reduceEqDiff, ↓reduceIte, nI_add, nI_1, nm_2, nm_3, nm_4, nm_6, nm_7, nm_8, nm_12, nm_16, nm_24, nm_40, nm_180, nm_300, nm_10210, na_0, na_2, na_3, na_4, na_5, na_6, na_7, na_8, nm_p, nm_m, nI_clamp, q2, q3, q5, q6, q7, q8, s40]); exact rfl) dX8_move_165 ?_
          refine t_iast (n := 3600) hκ hθ (by decide) rfl rfl (i32_in (by omega) (by omega)) (by (try simp (disch := omega) only [tS_1, tS_2, tA_1, tA_2, tF_1, tF_2, xl_0, xl_1, xl_2, Nat.reduceEqDiff, ↓reduceIte, nI_add, nI_1, nm_2, nm_3, nm_4, nm_6, nm_7, nm_8, nm_12, nm_16, nm_24, nm_40, nm_180, nm_300, nm_10210, na_0, na_2, na_3, na_4, na_5, na_6, na_7, na_8, nm_p, nm_m, nI_clamp, q2, q3, q5, q6, q7, q8, s40]); exact rfl) dX8_move_166 ?_
          refine x_aload_n hκ dX8_move_167 rfl ?_
          refine t_getA hκ fl8_42 (by decide) (by decide) rfl dX8_move_168 ?_
          refine x_iload hκ dX8_move_171 rfl ?_
          refine x_aload_n hκ dX8_move_173 rfl ?_
          refine t_getA hκ fl8_42 (by decide) (by decide) rfl dX8_move_174 ?_
          refine x_iload hκ dX8_move_177 rfl ?_
          refine x_iconst (v := 1) hκ dX8_move_179 (by decide) ?_
          refine x_iaddN hκ (by (try simp (disch := omega) only [tS_1, tS_2, tA_1, tA_2, tF_1, tF_2, xl_0, xl_1, xl_2, Nat.reduceEqDiff, ↓reduceIte, nI_add, nI_1, nm_2, nm_3, nm_4, nm_6, nm_7, nm_8, nm_12, nm_16, nm_24, nm_40, nm_180, nm_300, nm_10210, na_0, na_2, na_3, na_4, na_5, na_6, na_7, na_8, nm_p, nm_m, nI_clamp, q2, q3, q5, q6, q7, q8, s40]); exact rfl) dX8_move_180 ?_
          refine t_zald (n := 3600) hκ hθ (by decide) rfl rfl (i32_in (by omega) (by omega)) (by (try simp (disch := omega) only [tS_1, tS_2, tA_1, tA_2, tF_1, tF_2, xl_0, xl_1, xl_2, Nat.reduceEqDiff, ↓reduceIte, nI_add, nI_1, nm_2, nm_3, nm_4, nm_6, nm_7, nm_8, nm_12, nm_16, nm_24, nm_40, nm_180, nm_300, nm_10210, na_0, na_2, na_3, na_4, na_5, na_6, na_7, na_8, nm_p, nm_m, nI_clamp, q2, q3, q5, q6, q7, q8, s40]); exact rfl) dX8_move_181 ?_
          refine t_zast (n := 3600) hκ hθ (by decide) rfl rfl (i32_in (by omega) (by omega)) (by (try simp (disch := omega) only [tS_1, tS_2, tA_1, tA_2, tF_1, tF_2, xl_0, xl_1, xl_2, Nat.reduceEqDiff, ↓reduceIte, nI_add, nI_1, nm_2, nm_3, nm_4, nm_6, nm_7, nm_8, nm_12, nm_16, nm_24, nm_40, nm_180, nm_300, nm_10210, na_0, na_2, na_3, na_4, na_5, na_6, na_7, na_8, nm_p, nm_m, nI_clamp, q2, q3, q5, q6, q7, q8, s40]); exact rfl) (by unfold shf; split <;> rw [s42] <;> exact hM _) dX8_move_182 ?_
          refine x_aload_n hκ dX8_move_183 rfl ?_
          refine t_getA hκ fl8_43 (by decide) (by decide) rfl dX8_move_184 ?_
          refine x_iload hκ dX8_move_187 rfl ?_
          refine x_aload_n hκ dX8_move_189 rfl ?_
          refine t_getA hκ fl8_43 (by decide) (by decide) rfl dX8_move_190 ?_
          refine x_iload hκ dX8_move_193 rfl ?_
          refine x_iconst (v := 1) hκ dX8_move_195 (by decide) ?_
          refine x_iaddN hκ (by (try simp (disch := omega) only [tS_1, tS_2, tA_1, tA_2, tF_1, tF_2, xl_0, xl_1, xl_2, Nat.reduceEqDiff, ↓reduceIte, nI_add, nI_1, nm_2, nm_3, nm_4, nm_6, nm_7, nm_8, nm_12, nm_16, nm_24, nm_40, nm_180, nm_300, nm_10210, na_0, na_2, na_3, na_4, na_5, na_6, na_7, na_8, nm_p, nm_m, nI_clamp, q2, q3, q5, q6, q7, q8, s40]); exact rfl) dX8_move_196 ?_
          refine t_iald (n := 3600) hκ hθ (by decide) rfl rfl (i32_in (by omega) (by omega)) (by (try simp (disch := omega) only [tS_1, tS_2, tA_1, tA_2, tF_1, tF_2, xl_0, xl_1, xl_2, Nat.reduceEqDiff, ↓reduceIte, nI_add, nI_1, nm_2, nm_3, nm_4, nm_6, nm_7, nm_8, nm_12, nm_16, nm_24, nm_40, nm_180, nm_300, nm_10210, na_0, na_2, na_3, na_4, na_5, na_6, na_7, na_8, nm_p, nm_m, nI_clamp, q2, q3, q5, q6, q7, q8, s40]); exact rfl) dX8_move_197 ?_
          refine t_iast (n := 3600) hκ hθ (by decide) rfl rfl (i32_in (by omega) (by omega)) (by (try simp (disch := omega) only [tS_1, tS_2, tA_1, tA_2, tF_1, tF_2, xl_0, xl_1, xl_2, Nat.reduceEqDiff, ↓reduceIte, nI_add, nI_1, nm_2, nm_3, nm_4, nm_6, nm_7, nm_8, nm_12, nm_16, nm_24, nm_40, nm_180, nm_300, nm_10210, na_0, na_2, na_3, na_4, na_5, na_6, na_7, na_8, nm_p, nm_m, nI_clamp, q2, q3, q5, q6, q7, q8, s40]); exact rfl) dX8_move_198 ?_
          refine x_iincN (y := 1) hκ dX8_move_199 (by decide) rfl (by rw [hL]; decide) rfl (by (try simp (disch := omega) only [tS_1, tS_2, tA_1, tA_2, tF_1, tF_2, xl_0, xl_1, xl_2, Nat.reduceEqDiff, ↓reduceIte, nI_add, nI_1, nm_2, nm_3, nm_4, nm_6, nm_7, nm_8, nm_12, nm_16, nm_24, nm_40, nm_180, nm_300, nm_10210, na_0, na_2, na_3, na_4, na_5, na_6, na_7, na_8, nm_p, nm_m, nI_clamp, q2, q3, q5, q6, q7, q8, s40]); exact rfl) ?_
          refine x_goto (tgt := 132) hκ dX8_move_202 (by decide) ?_
          rw [shS_s σ1 (ca b t i) j _ _ _ rfl rfl rfl]
          exact ih (j + 1) (by omega) (by omega)
    refine x_aload_n hκ dX8_move_66 rfl ?_
    refine t_getA hκ fl8_41 (by decide) (by decide) rfl dX8_move_67 ?_
    refine x_sipush (v := 300) hκ dX8_move_70 (by decide) ?_
    refine x_iload hκ dX8_move_73 rfl ?_
    refine x_imulN hκ (by (try simp (disch := omega) only [tS_1, tS_2, tA_1, tA_2, tF_1, tF_2, xl_0, xl_1, xl_2, Nat.reduceEqDiff, ↓reduceIte, nI_add, nI_1, nm_2, nm_3, nm_4, nm_6, nm_7, nm_8, nm_12, nm_16, nm_24, nm_40, nm_180, nm_300, nm_10210, na_0, na_2, na_3, na_4, na_5, na_6, na_7, na_8, nm_p, nm_m, nI_clamp, f2]); exact rfl) dX8_move_75 ?_
    refine x_iload_n hκ dX8_move_76 rfl ?_
    refine x_iaddN hκ (by (try simp (disch := omega) only [tS_1, tS_2, tA_1, tA_2, tF_1, tF_2, xl_0, xl_1, xl_2, Nat.reduceEqDiff, ↓reduceIte, nI_add, nI_1, nm_2, nm_3, nm_4, nm_6, nm_7, nm_8, nm_12, nm_16, nm_24, nm_40, nm_180, nm_300, nm_10210, na_0, na_2, na_3, na_4, na_5, na_6, na_7, na_8, nm_p, nm_m, nI_clamp, f2]); exact rfl) dX8_move_77 ?_
    refine t_iald (n := 3600) hκ hθ (by decide) rfl rfl (i32_in (by omega) (by omega)) (by (try simp (disch := omega) only [tS_1, tS_2, tA_1, tA_2, tF_1, tF_2, xl_0, xl_1, xl_2, Nat.reduceEqDiff, ↓reduceIte, nI_add, nI_1, nm_2, nm_3, nm_4, nm_6, nm_7, nm_8, nm_12, nm_16, nm_24, nm_40, nm_180, nm_300, nm_10210, na_0, na_2, na_3, na_4, na_5, na_6, na_7, na_8, nm_p, nm_m, nI_clamp, f2]); exact rfl) dX8_move_78 ?_
    refine x_istore hκ dX8_move_79 (by rw [hL]; decide) rfl ?_
    refine x_aload_n hκ dX8_move_81 rfl ?_
    refine t_getA hκ fl8_42 (by decide) (by decide) rfl dX8_move_82 ?_
    refine x_sipush (v := 300) hκ dX8_move_85 (by decide) ?_
    refine x_iload hκ dX8_move_88 rfl ?_
    refine x_imulN hκ (by (try simp (disch := omega) only [tS_1, tS_2, tA_1, tA_2, tF_1, tF_2, xl_0, xl_1, xl_2, Nat.reduceEqDiff, ↓reduceIte, nI_add, nI_1, nm_2, nm_3, nm_4, nm_6, nm_7, nm_8, nm_12, nm_16, nm_24, nm_40, nm_180, nm_300, nm_10210, na_0, na_2, na_3, na_4, na_5, na_6, na_7, na_8, nm_p, nm_m, nI_clamp, f2]); exact rfl) dX8_move_90 ?_
    refine x_iload_n hκ dX8_move_91 rfl ?_
    refine x_iaddN hκ (by (try simp (disch := omega) only [tS_1, tS_2, tA_1, tA_2, tF_1, tF_2, xl_0, xl_1, xl_2, Nat.reduceEqDiff, ↓reduceIte, nI_add, nI_1, nm_2, nm_3, nm_4, nm_6, nm_7, nm_8, nm_12, nm_16, nm_24, nm_40, nm_180, nm_300, nm_10210, na_0, na_2, na_3, na_4, na_5, na_6, na_7, na_8, nm_p, nm_m, nI_clamp, f2]); exact rfl) dX8_move_92 ?_
    refine t_zald (n := 3600) hκ hθ (by decide) rfl rfl (i32_in (by omega) (by omega)) (by (try simp (disch := omega) only [tS_1, tS_2, tA_1, tA_2, tF_1, tF_2, xl_0, xl_1, xl_2, Nat.reduceEqDiff, ↓reduceIte, nI_add, nI_1, nm_2, nm_3, nm_4, nm_6, nm_7, nm_8, nm_12, nm_16, nm_24, nm_40, nm_180, nm_300, nm_10210, na_0, na_2, na_3, na_4, na_5, na_6, na_7, na_8, nm_p, nm_m, nI_clamp, f2]); exact rfl) dX8_move_93 ?_
    refine x_istore hκ dX8_move_94 (by rw [hL]; decide) rfl ?_
    refine x_aload_n hκ dX8_move_96 rfl ?_
    refine t_getA hκ fl8_43 (by decide) (by decide) rfl dX8_move_97 ?_
    refine x_sipush (v := 300) hκ dX8_move_100 (by decide) ?_
    refine x_iload hκ dX8_move_103 rfl ?_
    refine x_imulN hκ (by (try simp (disch := omega) only [tS_1, tS_2, tA_1, tA_2, tF_1, tF_2, xl_0, xl_1, xl_2, Nat.reduceEqDiff, ↓reduceIte, nI_add, nI_1, nm_2, nm_3, nm_4, nm_6, nm_7, nm_8, nm_12, nm_16, nm_24, nm_40, nm_180, nm_300, nm_10210, na_0, na_2, na_3, na_4, na_5, na_6, na_7, na_8, nm_p, nm_m, nI_clamp, f2]); exact rfl) dX8_move_105 ?_
    refine x_iload_n hκ dX8_move_106 rfl ?_
    refine x_iaddN hκ (by (try simp (disch := omega) only [tS_1, tS_2, tA_1, tA_2, tF_1, tF_2, xl_0, xl_1, xl_2, Nat.reduceEqDiff, ↓reduceIte, nI_add, nI_1, nm_2, nm_3, nm_4, nm_6, nm_7, nm_8, nm_12, nm_16, nm_24, nm_40, nm_180, nm_300, nm_10210, na_0, na_2, na_3, na_4, na_5, na_6, na_7, na_8, nm_p, nm_m, nI_clamp, f2]); exact rfl) dX8_move_107 ?_
    refine t_iald (n := 3600) hκ hθ (by decide) rfl rfl (i32_in (by omega) (by omega)) (by (try simp (disch := omega) only [tS_1, tS_2, tA_1, tA_2, tF_1, tF_2, xl_0, xl_1, xl_2, Nat.reduceEqDiff, ↓reduceIte, nI_add, nI_1, nm_2, nm_3, nm_4, nm_6, nm_7, nm_8, nm_12, nm_16, nm_24, nm_40, nm_180, nm_300, nm_10210, na_0, na_2, na_3, na_4, na_5, na_6, na_7, na_8, nm_p, nm_m, nI_clamp, f2]); exact rfl) dX8_move_108 ?_
    refine x_istore hκ dX8_move_109 (by rw [hL]; decide) rfl ?_
    refine x_aload_n hκ dX8_move_111 rfl ?_
    refine t_getA hκ fl8_40 (by decide) (by decide) rfl dX8_move_112 ?_
    refine x_iload hκ dX8_move_115 rfl ?_
    refine x_dup2 hκ dX8_move_117 rfl rfl ?_
    refine t_iald (n := 12) hκ hθ (by decide) rfl rfl (by first | ((with_reducible refine vp_in_nI ?_ ?_) <;> omega) | exact i32_in (by omega) (by omega) | exact i32_in' (by simp only [Int32.toInt_add, Int32.toInt_mul, Int32.toInt_sub, Int32.reduceToInt, Int.bmod_add_bmod, Int.bmod_sub_bmod, Int.add_bmod_bmod, Int.sub_bmod_bmod, Int.bmod_mul_bmod, Int.mul_bmod_bmod]; exact i32_bm (by omega) (by omega)) (by omega) (by omega) | exact i32_in (by decide) (by decide)) (by (try simp (disch := omega) only [tS_1, tS_2, tA_1, tA_2, tF_1, tF_2, xl_0, xl_1, xl_2, Nat.reduceEqDiff, ↓reduceIte, nI_add, nI_1, nm_2, nm_3, nm_4, nm_6, nm_7, nm_8, nm_12, nm_16, nm_24, nm_40, nm_180, nm_300, nm_10210, na_0, na_2, na_3, na_4, na_5, na_6, na_7, na_8, nm_p, nm_m, nI_clamp, f2]); exact rfl) dX8_move_118 ?_
    refine x_iconst (v := 1) hκ dX8_move_119 (by decide) ?_
    refine x_isubN hκ (by (try simp (disch := omega) only [tS_1, tS_2, tA_1, tA_2, tF_1, tF_2, xl_0, xl_1, xl_2, Nat.reduceEqDiff, ↓reduceIte, nI_add, nI_1, nm_2, nm_3, nm_4, nm_6, nm_7, nm_8, nm_12, nm_16, nm_24, nm_40, nm_180, nm_300, nm_10210, na_0, na_2, na_3, na_4, na_5, na_6, na_7, na_8, nm_p, nm_m, nI_clamp, f2]); exact rfl) dX8_move_120 ?_
    refine t_iast (n := 12) hκ hθ (by decide) rfl rfl (by first | ((with_reducible refine vp_in_nI ?_ ?_) <;> omega) | exact i32_in (by omega) (by omega) | exact i32_in' (by simp only [Int32.toInt_add, Int32.toInt_mul, Int32.toInt_sub, Int32.reduceToInt, Int.bmod_add_bmod, Int.bmod_sub_bmod, Int.add_bmod_bmod, Int.sub_bmod_bmod, Int.bmod_mul_bmod, Int.mul_bmod_bmod]; exact i32_bm (by omega) (by omega)) (by omega) (by omega) | exact i32_in (by decide) (by decide)) (by (try simp (disch := omega) only [tS_1, tS_2, tA_1, tA_2, tF_1, tF_2, xl_0, xl_1, xl_2, Nat.reduceEqDiff, ↓reduceIte, nI_add, nI_1, nm_2, nm_3, nm_4, nm_6, nm_7, nm_8, nm_12, nm_16, nm_24, nm_40, nm_180, nm_300, nm_10210, na_0, na_2, na_3, na_4, na_5, na_6, na_7, na_8, nm_p, nm_m, nI_clamp, f2]); exact rfl) dX8_move_121 ?_
    refine x_sipush (v := 300) hκ dX8_move_122 (by decide) ?_
    refine x_iload hκ dX8_move_125 rfl ?_
    refine x_imulN hκ (by (try simp (disch := omega) only [tS_1, tS_2, tA_1, tA_2, tF_1, tF_2, xl_0, xl_1, xl_2, Nat.reduceEqDiff, ↓reduceIte, nI_add, nI_1, nm_2, nm_3, nm_4, nm_6, nm_7, nm_8, nm_12, nm_16, nm_24, nm_40, nm_180, nm_300, nm_10210, na_0, na_2, na_3, na_4, na_5, na_6, na_7, na_8, nm_p, nm_m, nI_clamp, f2]); exact rfl) dX8_move_127 ?_
    refine x_iload_n hκ dX8_move_128 rfl ?_
    refine x_iaddN hκ (by (try simp (disch := omega) only [tS_1, tS_2, tA_1, tA_2, tF_1, tF_2, xl_0, xl_1, xl_2, Nat.reduceEqDiff, ↓reduceIte, nI_add, nI_1, nm_2, nm_3, nm_4, nm_6, nm_7, nm_8, nm_12, nm_16, nm_24, nm_40, nm_180, nm_300, nm_10210, na_0, na_2, na_3, na_4, na_5, na_6, na_7, na_8, nm_p, nm_m, nI_clamp, f2]); exact rfl) dX8_move_129 ?_
    refine x_istore hκ dX8_move_130 (by rw [hL]; decide) rfl ?_
    have q := loop (Int32.toNatClampNeg (σ.2 40 (Int32.toNatClampNeg (4 * b + t)))) 0 (by omega) (by omega)
    rw [shS_0, ← hσ1] at q
    rw [show 300 * (4 * b + t) + i = nI (ca b t i) from by rw [i32_eq, f1, nI_toInt (by omega)]]
    exact q
  refine x_aload_n hκ dX8_move_0 rfl ?_
  refine x_iload_n hκ dX8_move_1 rfl ?_
  refine x_iload_n hκ dX8_move_2 rfl ?_
  refine x_iload_n hκ dX8_move_3 rfl ?_
  refine t_callR hκ (mX8_isCopy hθ hT) (by omega) (by decide) wX8_311 aX8_isCopy rfl (Nat.le_of_ble_eq_true rfl) dX8_move_4 (fun r4 h4 => ?_)
  refine x_if_eq (tgt := 18) hκ dX8_move_7 (by decide) (fun c7 => ?_) (fun c7 => ?_)
  · -- X8_move 7T
    have i7 := h4.f c7
    try simp only [Int32.reduceToInt] at i7
    refine x_iconst (v := (-1)) hκ dX8_move_18 (by decide) ?_
    refine t_reti hκ hr rfl dX8_move_19 ?_
    rw [if_neg (by omega)]
  · -- X8_move 7F
    have i7 := h4.t c7
    try simp only [Int32.reduceToInt] at i7
    refine x_iload hκ dX8_move_10 rfl ?_
    refine x_callSi hκ mX8_isTray (by omega) (by decide) wX8_192 aX8_isTray rfl (Nat.le_of_ble_eq_true rfl) dX8_move_12 (fun r12 h12 => ?_)
    refine x_if_ne (tgt := 20) hκ dX8_move_15 (by decide) (fun c15 => ?_) (fun c15 => ?_)
    · -- X8_move 15T
      have i15 := h12.t c15
      try simp only [Int32.reduceToInt] at i15
      refine x_iconst (v := 4) hκ dX8_move_20 (by decide) ?_
      refine x_iload_n hκ dX8_move_21 rfl ?_
      refine x_imulN hκ (by (try simp (disch := omega) only [tS_1, tS_2, tA_1, tA_2, tF_1, tF_2, xl_0, xl_1, xl_2, Nat.reduceEqDiff, ↓reduceIte, nI_add, nI_1, nm_2, nm_3, nm_4, nm_6, nm_7, nm_8, nm_12, nm_16, nm_24, nm_40, nm_180, nm_300, nm_10210, na_0, na_2, na_3, na_4, na_5, na_6, na_7, na_8, nm_p, nm_m, nI_clamp]); exact rfl) dX8_move_22 ?_
      refine x_iload_n hκ dX8_move_23 rfl ?_
      refine x_iaddN hκ (by (try simp (disch := omega) only [tS_1, tS_2, tA_1, tA_2, tF_1, tF_2, xl_0, xl_1, xl_2, Nat.reduceEqDiff, ↓reduceIte, nI_add, nI_1, nm_2, nm_3, nm_4, nm_6, nm_7, nm_8, nm_12, nm_16, nm_24, nm_40, nm_180, nm_300, nm_10210, na_0, na_2, na_3, na_4, na_5, na_6, na_7, na_8, nm_p, nm_m, nI_clamp]); exact rfl) dX8_move_24 ?_
      refine x_istore hκ dX8_move_25 (by rw [hL]; decide) rfl ?_
      refine x_iconst (v := 4) hκ dX8_move_27 (by decide) ?_
      refine x_iload_n hκ dX8_move_28 rfl ?_
      refine x_imulN hκ (by (try simp (disch := omega) only [tS_1, tS_2, tA_1, tA_2, tF_1, tF_2, xl_0, xl_1, xl_2, Nat.reduceEqDiff, ↓reduceIte, nI_add, nI_1, nm_2, nm_3, nm_4, nm_6, nm_7, nm_8, nm_12, nm_16, nm_24, nm_40, nm_180, nm_300, nm_10210, na_0, na_2, na_3, na_4, na_5, na_6, na_7, na_8, nm_p, nm_m, nI_clamp]); exact rfl) dX8_move_29 ?_
      refine x_iload hκ dX8_move_30 rfl ?_
      refine x_iaddN hκ (by (try simp (disch := omega) only [tS_1, tS_2, tA_1, tA_2, tF_1, tF_2, xl_0, xl_1, xl_2, Nat.reduceEqDiff, ↓reduceIte, nI_add, nI_1, nm_2, nm_3, nm_4, nm_6, nm_7, nm_8, nm_12, nm_16, nm_24, nm_40, nm_180, nm_300, nm_10210, na_0, na_2, na_3, na_4, na_5, na_6, na_7, na_8, nm_p, nm_m, nI_clamp]); exact rfl) dX8_move_32 ?_
      refine x_istore hκ dX8_move_33 (by rw [hL]; decide) rfl ?_
      refine x_iload hκ dX8_move_35 rfl ?_
      refine x_if_le (tgt := 66) hκ dX8_move_37 (by decide) (fun c37 => ?_) (fun c37 => ?_)
      · -- X8_move 37T
        have i37 := c37
        simp (disch := omega) only [i32_lt, i32_le, i32_eq, Int32.reduceToInt, nI_toInt] at i37
        exact main i7 i15 (by omega)
      · -- X8_move 37F
        have i37 := c37
        simp (disch := omega) only [i32_lt, i32_le, i32_eq, Int32.reduceToInt, nI_toInt] at i37
        refine x_iload hκ dX8_move_40 rfl ?_
        refine x_iload_n hκ dX8_move_42 rfl ?_
        refine x_icmp_eq (tgt := 66) hκ dX8_move_43 (by decide) (fun c43 => ?_) (fun c43 => ?_)
        · -- X8_move 43T
          have i43 := c43
          simp (disch := omega) only [i32_lt, i32_le, i32_eq, Int32.reduceToInt, nI_toInt] at i43
          exact main i7 i15 (fun z => z.1.2 c43)
        · -- X8_move 43F
          have i43 := c43
          simp (disch := omega) only [i32_lt, i32_le, i32_eq, Int32.reduceToInt, nI_toInt] at i43
          refine x_aload_n hκ dX8_move_46 rfl ?_
          refine t_getA hκ fl8_40 (by decide) (by decide) rfl dX8_move_47 ?_
          refine x_iload hκ dX8_move_50 rfl ?_
          refine t_iald (n := 12) hκ hθ (by decide) rfl rfl (by first | ((with_reducible refine vp_in_nI ?_ ?_) <;> omega) | exact i32_in (by omega) (by omega) | exact i32_in' (by simp only [Int32.toInt_add, Int32.toInt_mul, Int32.toInt_sub, Int32.reduceToInt, Int.bmod_add_bmod, Int.bmod_sub_bmod, Int.add_bmod_bmod, Int.sub_bmod_bmod, Int.bmod_mul_bmod, Int.mul_bmod_bmod]; exact i32_bm (by omega) (by omega)) (by omega) (by omega) | exact i32_in (by decide) (by decide)) (by (try simp (disch := omega) only [tS_1, tS_2, tA_1, tA_2, tF_1, tF_2, xl_0, xl_1, xl_2, Nat.reduceEqDiff, ↓reduceIte, nI_add, nI_1, nm_2, nm_3, nm_4, nm_6, nm_7, nm_8, nm_12, nm_16, nm_24, nm_40, nm_180, nm_300, nm_10210, na_0, na_2, na_3, na_4, na_5, na_6, na_7, na_8, nm_p, nm_m, nI_clamp]); exact rfl) dX8_move_52 ?_
          refine x_aload_n hκ dX8_move_53 rfl ?_
          refine t_getA hκ fl8_7 (by decide) (by decide) rfl dX8_move_54 ?_
          refine x_iload hκ dX8_move_57 rfl ?_
          refine t_iald (n := 12) hκ hθ (by decide) rfl rfl (by first | ((with_reducible refine vp_in_nI ?_ ?_) <;> omega) | exact i32_in (by omega) (by omega) | exact i32_in' (by simp only [Int32.toInt_add, Int32.toInt_mul, Int32.toInt_sub, Int32.reduceToInt, Int.bmod_add_bmod, Int.bmod_sub_bmod, Int.add_bmod_bmod, Int.sub_bmod_bmod, Int.bmod_mul_bmod, Int.mul_bmod_bmod]; exact i32_bm (by omega) (by omega)) (by omega) (by omega) | exact i32_in (by decide) (by decide)) (by (try simp (disch := omega) only [tS_1, tS_2, tA_1, tA_2, tF_1, tF_2, xl_0, xl_1, xl_2, Nat.reduceEqDiff, ↓reduceIte, nI_add, nI_1, nm_2, nm_3, nm_4, nm_6, nm_7, nm_8, nm_12, nm_16, nm_24, nm_40, nm_180, nm_300, nm_10210, na_0, na_2, na_3, na_4, na_5, na_6, na_7, na_8, nm_p, nm_m, nI_clamp]); exact rfl) dX8_move_59 ?_
          refine x_icmp_lt (tgt := 66) hκ dX8_move_60 (by decide) (fun c60 => ?_) (fun c60 => ?_)
          · -- X8_move 60T
            have i60 := c60
            simp (disch := omega) only [i32_lt, i32_le, i32_eq, Int32.reduceToInt, nI_toInt] at i60
            exact main i7 i15 (by omega)
          · -- X8_move 60F
            have i60 := c60
            simp (disch := omega) only [i32_lt, i32_le, i32_eq, Int32.reduceToInt, nI_toInt] at i60
            refine x_bipush (v := (-3)) hκ dX8_move_63 (by decide) ?_
            refine t_reti hκ hr rfl dX8_move_65 ?_
            rw [if_pos ⟨i7, i15⟩, if_pos ⟨⟨by omega, c43⟩, by omega⟩]
    · -- X8_move 15F
      have i15 := h12.f c15
      try simp only [Int32.reduceToInt] at i15
      refine x_iconst (v := (-1)) hκ dX8_move_18 (by decide) ?_
      refine t_reti hκ hr rfl dX8_move_19 ?_
      rw [if_neg (by omega)]
/-- zeros -/
def zf (f : Nat → Int32) (o n : Nat) : Nat → Int32 := fun j => if o ≤ j ∧ j < o + n then 0 else f j
theorem zf_s {f : Nat → Int32} {o n : Nat} : upd (zf f o n) (o + n) 0 = zf f o (n + 1) := by
  funext j
  unfold upd zf
  by_cases h : j = o + n
  · subst h
    rw [if_pos rfl, if_pos (by omega)]
  · rw [if_neg h]
    by_cases h2 : o ≤ j ∧ j < o + n
    · rw [if_pos h2, if_pos (by omega)]
    · rw [if_neg h2, if_neg (by omega)]
theorem zf_0 {f : Nat → Int32} {o : Nat} : zf f o 0 = f := by
  funext j
  unfold zf
  rw [if_neg (by omega)]
theorem mX8_sheet {E : gE} {θ : TA} (hθ : tOk θ) {σ : TS} {s l n : Int32} : TMi E θ σ yX8_sheet cX8_sheet 5 .int 2 [.int s, .int l, .int n] (fun r σ' => (r, σ') = if (0 ≤ s.toInt ∧ s.toInt ≤ 1) ∧ (0 ≤ l.toInt ∧ l.toInt ≤ 1) ∧ n.toInt ≤ 40 then (if n.toInt < 0 then (-14, σ) else (n, tF (tA (tA σ 54 (Int32.toNatClampNeg s) l) 55 (Int32.toNatClampNeg s) n) 56 (zf (σ.2 56) (40 * Int32.toNatClampNeg s) 40))) else (-1, σ)) := by
  refine TMi.of (by decide) (Nat.le_of_ble_eq_true rfl) ?_
  rintro κ rfl hL hκ hr
  have loop : ∀ (m i : Nat), i ≤ 40 → 40 - i < m → (0 ≤ s.toInt ∧ s.toInt ≤ 1) → (0 ≤ l.toInt ∧ l.toInt ≤ 1) ∧ n.toInt ≤ 40 ∧ 0 ≤ n.toInt → X κ (tG (kE κ) θ (tF (tA (tA σ 54 (Int32.toNatClampNeg s) l) 55 (Int32.toNatClampNeg s) n) 56 (zf (σ.2 56) (40 * Int32.toNatClampNeg s) i))) 0 0 48 [some (.ref θ.1), some (.int s), some (.int l), some (.int n), some (.int (nI i))] [] := by
    intro m
    induction m with
    | zero => intro i h1 h2; exact absurd h2 (Nat.not_lt_zero _)
    | succ m ih =>
      intro i hi hm hs hl
      have hn := nI_toInt (n := i) (by omega)
      have q1 : ((40 : Int32) * s + nI i).toInt = 40 * s.toInt + i := by
        simp only [Int32.toInt_add, Int32.toInt_mul, Int32.reduceToInt, Int.bmod_add_bmod, hn]
        exact i32_bm (by omega) (by omega)
      have q2 : ((40 : Int32) * s + nI i).toInt = ((40 * Int32.toNatClampNeg s + i : Nat) : Int) := by rw [q1]; show _ = ((40 * s.toInt.toNat + i : Nat) : Int); omega
      have q3 : i < 40 → ((40 : Int32) * s + nI i).toNatClampNeg = 40 * Int32.toNatClampNeg s + i := fun _ => by rw [i32_cl, q2]; omega
      refine x_iload hκ dX8_sheet_48 rfl ?_
      refine x_bipush (v := 40) hκ dX8_sheet_50 (by decide) ?_
      refine x_icmp_ge (tgt := 74) hκ dX8_sheet_52 (by decide) (fun c52 => ?_) (fun c52 => ?_)
      · -- X8_sheet 52T
        have i52 := c52
        simp (disch := omega) only [i32_lt, i32_le, i32_eq, Int32.reduceToInt, nI_toInt] at i52
        refine x_iload_n hκ dX8_sheet_74 rfl ?_
        refine t_reti hκ hr rfl dX8_sheet_75 ?_
        obtain rfl : i = 40 := by omega
        rw [if_pos (by omega), if_neg (by omega)]
      · -- X8_sheet 52F
        have i52 := c52
        simp (disch := omega) only [i32_lt, i32_le, i32_eq, Int32.reduceToInt, nI_toInt] at i52
        refine x_aload_n hκ dX8_sheet_55 rfl ?_
        refine t_getA hκ fl8_56 (by decide) (by decide) rfl dX8_sheet_56 ?_
        refine x_bipush (v := 40) hκ dX8_sheet_59 (by decide) ?_
        refine x_iload_n hκ dX8_sheet_61 rfl ?_
        refine x_imulN hκ (by (try simp (disch := omega) only [tS_1, tS_2, tA_1, tA_2, tF_1, tF_2, xl_0, xl_1, xl_2, Nat.reduceEqDiff, ↓reduceIte, nI_add, nI_1, nm_2, nm_3, nm_4, nm_6, nm_7, nm_8, nm_12, nm_16, nm_24, nm_40, nm_180, nm_300, nm_10210, na_0, na_2, na_3, na_4, na_5, na_6, na_7, na_8, nm_p, nm_m, nI_clamp]); exact rfl) dX8_sheet_62 ?_
        refine x_iload hκ dX8_sheet_63 rfl ?_
        refine x_iaddN hκ (by (try simp (disch := omega) only [tS_1, tS_2, tA_1, tA_2, tF_1, tF_2, xl_0, xl_1, xl_2, Nat.reduceEqDiff, ↓reduceIte, nI_add, nI_1, nm_2, nm_3, nm_4, nm_6, nm_7, nm_8, nm_12, nm_16, nm_24, nm_40, nm_180, nm_300, nm_10210, na_0, na_2, na_3, na_4, na_5, na_6, na_7, na_8, nm_p, nm_m, nI_clamp]); exact rfl) dX8_sheet_65 ?_
        refine x_iconst (v := 0) hκ dX8_sheet_66 (by decide) ?_
        refine t_iast (n := 80) hκ hθ (by decide) rfl rfl (i32_in (by rw [q1]; omega) (by rw [q1]; omega)) (by (try simp (disch := omega) only [tS_1, tS_2, tA_1, tA_2, tF_1, tF_2, xl_0, xl_1, xl_2, Nat.reduceEqDiff, ↓reduceIte, nI_add, nI_1, nm_2, nm_3, nm_4, nm_6, nm_7, nm_8, nm_12, nm_16, nm_24, nm_40, nm_180, nm_300, nm_10210, na_0, na_2, na_3, na_4, na_5, na_6, na_7, na_8, nm_p, nm_m, nI_clamp]); exact rfl) dX8_sheet_67 ?_
        rw [tA_tF, q3 (by omega), zf_s]
        refine x_iincN (y := 1) hκ dX8_sheet_68 (by decide) rfl (by rw [hL]; decide) rfl (by (try simp (disch := omega) only [tS_1, tS_2, tA_1, tA_2, tF_1, tF_2, xl_0, xl_1, xl_2, Nat.reduceEqDiff, ↓reduceIte, nI_add, nI_1, nm_2, nm_3, nm_4, nm_6, nm_7, nm_8, nm_12, nm_16, nm_24, nm_40, nm_180, nm_300, nm_10210, na_0, na_2, na_3, na_4, na_5, na_6, na_7, na_8, nm_p, nm_m, nI_clamp]); exact rfl) ?_
        refine x_goto (tgt := 48) hκ dX8_sheet_71 (by decide) ?_
        exact ih (i + 1) (by omega) (by omega) hs hl
  refine x_iload_n hκ dX8_sheet_0 rfl ?_
  refine x_callSi hκ mX8_isSheet (by omega) (by decide) wX8_305 aX8_isSheet rfl (Nat.le_of_ble_eq_true rfl) dX8_sheet_1 (fun r1 h1 => ?_)
  refine x_if_eq (tgt := 22) hκ dX8_sheet_4 (by decide) (fun c4 => ?_) (fun c4 => ?_)
  · -- X8_sheet 4T
    have i4 := h1.f c4
    try simp only [Int32.reduceToInt] at i4
    refine x_iconst (v := (-1)) hκ dX8_sheet_22 (by decide) ?_
    refine t_reti hκ hr rfl dX8_sheet_23 ?_
    rw [if_neg (by omega)]
  · -- X8_sheet 4F
    have i4 := h1.t c4
    try simp only [Int32.reduceToInt] at i4
    refine x_iload_n hκ dX8_sheet_7 rfl ?_
    refine x_iconst (v := 0) hκ dX8_sheet_8 (by decide) ?_
    refine x_iconst (v := 1) hκ dX8_sheet_9 (by decide) ?_
    refine x_callSi hκ mX8_in (by omega) (by decide) wX8_122 aX8_in rfl (Nat.le_of_ble_eq_true rfl) dX8_sheet_10 (fun r10 h10 => ?_)
    refine x_if_eq (tgt := 22) hκ dX8_sheet_13 (by decide) (fun c13 => ?_) (fun c13 => ?_)
    · -- X8_sheet 13T
      have i13 := h10.f c13
      try simp only [Int32.reduceToInt] at i13
      refine x_iconst (v := (-1)) hκ dX8_sheet_22 (by decide) ?_
      refine t_reti hκ hr rfl dX8_sheet_23 ?_
      rw [if_neg (by omega)]
    · -- X8_sheet 13F
      have i13 := h10.t c13
      try simp only [Int32.reduceToInt] at i13
      refine x_iload_n hκ dX8_sheet_16 rfl ?_
      refine x_bipush (v := 40) hκ dX8_sheet_17 (by decide) ?_
      refine x_icmp_le (tgt := 24) hκ dX8_sheet_19 (by decide) (fun c19 => ?_) (fun c19 => ?_)
      · -- X8_sheet 19T
        have i19 := c19
        simp (disch := omega) only [i32_lt, i32_le, i32_eq, Int32.reduceToInt, nI_toInt] at i19
        refine x_iload_n hκ dX8_sheet_24 rfl ?_
        refine x_if_ge (tgt := 31) hκ dX8_sheet_25 (by decide) (fun c25 => ?_) (fun c25 => ?_)
        · -- X8_sheet 25T
          have i25 := c25
          simp (disch := omega) only [i32_lt, i32_le, i32_eq, Int32.reduceToInt, nI_toInt] at i25
          refine x_aload_n hκ dX8_sheet_31 rfl ?_
          refine t_getA hκ fl8_54 (by decide) (by decide) rfl dX8_sheet_32 ?_
          refine x_iload_n hκ dX8_sheet_35 rfl ?_
          refine x_iload_n hκ dX8_sheet_36 rfl ?_
          refine t_iast (n := 2) hκ hθ (by decide) rfl rfl (by first | ((with_reducible refine vp_in_nI ?_ ?_) <;> omega) | exact i32_in (by omega) (by omega) | exact i32_in' (by simp only [Int32.toInt_add, Int32.toInt_mul, Int32.toInt_sub, Int32.reduceToInt, Int.bmod_add_bmod, Int.bmod_sub_bmod, Int.add_bmod_bmod, Int.sub_bmod_bmod, Int.bmod_mul_bmod, Int.mul_bmod_bmod]; exact i32_bm (by omega) (by omega)) (by omega) (by omega) | exact i32_in (by decide) (by decide)) (by (try simp (disch := omega) only [tS_1, tS_2, tA_1, tA_2, tF_1, tF_2, xl_0, xl_1, xl_2, Nat.reduceEqDiff, ↓reduceIte, nI_add, nI_1, nm_2, nm_3, nm_4, nm_6, nm_7, nm_8, nm_12, nm_16, nm_24, nm_40, nm_180, nm_300, nm_10210, na_0, na_2, na_3, na_4, na_5, na_6, na_7, na_8, nm_p, nm_m, nI_clamp]); exact rfl) dX8_sheet_37 ?_
          refine x_aload_n hκ dX8_sheet_38 rfl ?_
          refine t_getA hκ fl8_55 (by decide) (by decide) rfl dX8_sheet_39 ?_
          refine x_iload_n hκ dX8_sheet_42 rfl ?_
          refine x_iload_n hκ dX8_sheet_43 rfl ?_
          refine t_iast (n := 2) hκ hθ (by decide) rfl rfl (by first | ((with_reducible refine vp_in_nI ?_ ?_) <;> omega) | exact i32_in (by omega) (by omega) | exact i32_in' (by simp only [Int32.toInt_add, Int32.toInt_mul, Int32.toInt_sub, Int32.reduceToInt, Int.bmod_add_bmod, Int.bmod_sub_bmod, Int.add_bmod_bmod, Int.sub_bmod_bmod, Int.bmod_mul_bmod, Int.mul_bmod_bmod]; exact i32_bm (by omega) (by omega)) (by omega) (by omega) | exact i32_in (by decide) (by decide)) (by (try simp (disch := omega) only [tS_1, tS_2, tA_1, tA_2, tF_1, tF_2, xl_0, xl_1, xl_2, Nat.reduceEqDiff, ↓reduceIte, nI_add, nI_1, nm_2, nm_3, nm_4, nm_6, nm_7, nm_8, nm_12, nm_16, nm_24, nm_40, nm_180, nm_300, nm_10210, na_0, na_2, na_3, na_4, na_5, na_6, na_7, na_8, nm_p, nm_m, nI_clamp]); exact rfl) dX8_sheet_44 ?_
          refine x_iconst (v := 0) hκ dX8_sheet_45 (by decide) ?_
          refine x_istore hκ dX8_sheet_46 (by rw [hL]; decide) rfl ?_
          have q := loop 41 0 (by omega) (by omega) (by omega) (by omega)
          have q2 := tF_self (tA (tA σ 54 (Int32.toNatClampNeg s) l) 55 (Int32.toNatClampNeg s) n) 56
          rw [zf_0] at q
          rw [← q2]
          exact q
        · -- X8_sheet 25F
          have i25 := c25
          simp (disch := omega) only [i32_lt, i32_le, i32_eq, Int32.reduceToInt, nI_toInt] at i25
          refine x_bipush (v := (-14)) hκ dX8_sheet_28 (by decide) ?_
          refine t_reti hκ hr rfl dX8_sheet_30 ?_
          rw [if_pos (by omega), if_pos (by omega)]
      · -- X8_sheet 19F
        have i19 := c19
        simp (disch := omega) only [i32_lt, i32_le, i32_eq, Int32.reduceToInt, nI_toInt] at i19
        refine x_iconst (v := (-1)) hκ dX8_sheet_22 (by decide) ?_
        refine t_reti hκ hr rfl dX8_sheet_23 ?_
        rw [if_neg (by omega)]
theorem mX8_drop {E : gE} {θ : TA} (hθ : tOk θ) {σ : TS} {s : Int32} : TMi E θ σ yX8_drop cX8_drop 2 .int 2 [.int s] (fun r σ' => (r, σ') = if 0 ≤ s.toInt ∧ s.toInt ≤ 1 then (if (σ.2 54 (Int32.toNatClampNeg s)).toInt < 0 then (-11, σ) else (σ.2 55 (Int32.toNatClampNeg s), tA σ 54 (Int32.toNatClampNeg s) (-1))) else (-1, σ)) := by
  refine TMi.of (by decide) (Nat.le_of_ble_eq_true rfl) ?_
  rintro κ rfl hL hκ hr
  refine x_iload_n hκ dX8_drop_0 rfl ?_
  refine x_callSi hκ mX8_isSheet (by omega) (by decide) wX8_305 aX8_isSheet rfl (Nat.le_of_ble_eq_true rfl) dX8_drop_1 (fun r1 h1 => ?_)
  refine x_if_ne (tgt := 9) hκ dX8_drop_4 (by decide) (fun c4 => ?_) (fun c4 => ?_)
  · -- X8_drop 4T
    have i4 := h1.t c4
    try simp only [Int32.reduceToInt] at i4
    refine x_aload_n hκ dX8_drop_9 rfl ?_
    refine t_getA hκ fl8_54 (by decide) (by decide) rfl dX8_drop_10 ?_
    refine x_iload_n hκ dX8_drop_13 rfl ?_
    refine t_iald (n := 2) hκ hθ (by decide) rfl rfl (by first | ((with_reducible refine vp_in_nI ?_ ?_) <;> omega) | exact i32_in (by omega) (by omega) | exact i32_in' (by simp only [Int32.toInt_add, Int32.toInt_mul, Int32.toInt_sub, Int32.reduceToInt, Int.bmod_add_bmod, Int.bmod_sub_bmod, Int.add_bmod_bmod, Int.sub_bmod_bmod, Int.bmod_mul_bmod, Int.mul_bmod_bmod]; exact i32_bm (by omega) (by omega)) (by omega) (by omega) | exact i32_in (by decide) (by decide)) (by (try simp (disch := omega) only [tS_1, tS_2, tA_1, tA_2, tF_1, tF_2, xl_0, xl_1, xl_2, Nat.reduceEqDiff, ↓reduceIte, nI_add, nI_1, nm_2, nm_3, nm_4, nm_6, nm_7, nm_8, nm_12, nm_16, nm_24, nm_40, nm_180, nm_300, nm_10210, na_0, na_2, na_3, na_4, na_5, na_6, na_7, na_8, nm_p, nm_m, nI_clamp]); exact rfl) dX8_drop_14 ?_
    refine x_if_ge (tgt := 21) hκ dX8_drop_15 (by decide) (fun c15 => ?_) (fun c15 => ?_)
    · -- X8_drop 15T
      have i15 := c15
      simp (disch := omega) only [i32_lt, i32_le, i32_eq, Int32.reduceToInt, nI_toInt] at i15
      refine x_aload_n hκ dX8_drop_21 rfl ?_
      refine t_getA hκ fl8_54 (by decide) (by decide) rfl dX8_drop_22 ?_
      refine x_iload_n hκ dX8_drop_25 rfl ?_
      refine x_iconst (v := (-1)) hκ dX8_drop_26 (by decide) ?_
      refine t_iast (n := 2) hκ hθ (by decide) rfl rfl (by first | ((with_reducible refine vp_in_nI ?_ ?_) <;> omega) | exact i32_in (by omega) (by omega) | exact i32_in' (by simp only [Int32.toInt_add, Int32.toInt_mul, Int32.toInt_sub, Int32.reduceToInt, Int.bmod_add_bmod, Int.bmod_sub_bmod, Int.add_bmod_bmod, Int.sub_bmod_bmod, Int.bmod_mul_bmod, Int.mul_bmod_bmod]; exact i32_bm (by omega) (by omega)) (by omega) (by omega) | exact i32_in (by decide) (by decide)) (by (try simp (disch := omega) only [tS_1, tS_2, tA_1, tA_2, tF_1, tF_2, xl_0, xl_1, xl_2, Nat.reduceEqDiff, ↓reduceIte, nI_add, nI_1, nm_2, nm_3, nm_4, nm_6, nm_7, nm_8, nm_12, nm_16, nm_24, nm_40, nm_180, nm_300, nm_10210, na_0, na_2, na_3, na_4, na_5, na_6, na_7, na_8, nm_p, nm_m, nI_clamp]); exact rfl) dX8_drop_27 ?_
      refine x_aload_n hκ dX8_drop_28 rfl ?_
      refine t_getA hκ fl8_55 (by decide) (by decide) rfl dX8_drop_29 ?_
      refine x_iload_n hκ dX8_drop_32 rfl ?_
      refine t_iald (n := 2) hκ hθ (by decide) rfl rfl (by first | ((with_reducible refine vp_in_nI ?_ ?_) <;> omega) | exact i32_in (by omega) (by omega) | exact i32_in' (by simp only [Int32.toInt_add, Int32.toInt_mul, Int32.toInt_sub, Int32.reduceToInt, Int.bmod_add_bmod, Int.bmod_sub_bmod, Int.add_bmod_bmod, Int.sub_bmod_bmod, Int.bmod_mul_bmod, Int.mul_bmod_bmod]; exact i32_bm (by omega) (by omega)) (by omega) (by omega) | exact i32_in (by decide) (by decide)) (by (try simp (disch := omega) only [tS_1, tS_2, tA_1, tA_2, tF_1, tF_2, xl_0, xl_1, xl_2, Nat.reduceEqDiff, ↓reduceIte, nI_add, nI_1, nm_2, nm_3, nm_4, nm_6, nm_7, nm_8, nm_12, nm_16, nm_24, nm_40, nm_180, nm_300, nm_10210, na_0, na_2, na_3, na_4, na_5, na_6, na_7, na_8, nm_p, nm_m, nI_clamp]); exact rfl) dX8_drop_33 ?_
      refine t_reti hκ hr rfl dX8_drop_34 ?_
      rw [if_pos (by omega), if_neg (by omega)]
    · -- X8_drop 15F
      have i15 := c15
      simp (disch := omega) only [i32_lt, i32_le, i32_eq, Int32.reduceToInt, nI_toInt] at i15
      refine x_bipush (v := (-11)) hκ dX8_drop_18 (by decide) ?_
      refine t_reti hκ hr rfl dX8_drop_20 ?_
      rw [if_pos (by omega), if_pos (by omega)]
  · -- X8_drop 4F
    have i4 := h1.f c4
    try simp only [Int32.reduceToInt] at i4
    refine x_iconst (v := (-1)) hκ dX8_drop_7 (by decide) ?_
    refine t_reti hκ hr rfl dX8_drop_8 ?_
    rw [if_neg (by omega)]
theorem mX8_item {E : gE} {θ : TA} (hθ : tOk θ) {σ : TS} (hl : ∀ s : Nat, s < 2 → 0 ≤ (σ.2 55 s).toInt ∧ (σ.2 55 s).toInt ≤ 40) {s l i v : Int32} : TMi E θ σ yX8_item cX8_item 5 .int 2 [.int s, .int l, .int i, .int v] (fun r σ' => (r, σ') = if (0 ≤ s.toInt ∧ s.toInt ≤ 1) ∧ 0 ≤ l.toInt ∧ l.toInt ≤ 1 then (if (σ.2 54 (Int32.toNatClampNeg s)).toInt < 0 then (-11, σ) else if σ.2 54 (Int32.toNatClampNeg s) = l then (if 0 ≤ i.toInt ∧ i.toInt < (σ.2 55 (Int32.toNatClampNeg s)).toInt then (1, tA σ 56 (40 * Int32.toNatClampNeg s + Int32.toNatClampNeg i) (if l = 0 then v.toInt16.toInt32 else v)) else (-13, σ)) else (-12, σ)) else (-1, σ)) := by
  refine TMi.of (by decide) (Nat.le_of_ble_eq_true rfl) ?_
  rintro κ rfl hL hκ hr
  have e1 : 0 ≤ s.toInt ∧ s.toInt ≤ 1 → (σ.2 55 (Int32.toNatClampNeg s) - 1).toInt = (σ.2 55 (Int32.toNatClampNeg s)).toInt - 1 ∧ 0 ≤ (σ.2 55 (Int32.toNatClampNeg s)).toInt ∧ (σ.2 55 (Int32.toNatClampNeg s)).toInt ≤ 40 := fun h => by
    have h2 := hl (Int32.toNatClampNeg s) (by show s.toInt.toNat < 2; omega)
    exact ⟨i32_sub (by simp only [Int32.reduceToInt]; omega) (by simp only [Int32.reduceToInt]; omega), h2⟩
  have e2 : 0 ≤ s.toInt ∧ s.toInt ≤ 1 → 0 ≤ i.toInt → i.toInt < 40 → ((40 : Int32) * s + i).toInt = 40 * s.toInt + i.toInt ∧ ((40 : Int32) * s + i).toNatClampNeg = 40 * Int32.toNatClampNeg s + Int32.toNatClampNeg i := fun h h2 h3 => by
    have q : ((40 : Int32) * s + i).toInt = 40 * s.toInt + i.toInt := by
      simp only [Int32.toInt_add, Int32.toInt_mul, Int32.reduceToInt, Int.bmod_add_bmod]
      exact i32_bm (by omega) (by omega)
    refine ⟨q, ?_⟩
    rw [i32_cl, q]
    show _ = 40 * s.toInt.toNat + i.toInt.toNat
    omega
  refine x_iload_n hκ dX8_item_0 rfl ?_
  refine x_callSi hκ mX8_isSheet (by omega) (by decide) wX8_305 aX8_isSheet rfl (Nat.le_of_ble_eq_true rfl) dX8_item_1 (fun r1 h1 => ?_)
  refine x_if_eq (tgt := 16) hκ dX8_item_4 (by decide) (fun c4 => ?_) (fun c4 => ?_)
  · -- X8_item 4T
    have i4 := h1.f c4
    try simp only [Int32.reduceToInt] at i4
    refine x_iconst (v := (-1)) hκ dX8_item_16 (by decide) ?_
    refine t_reti hκ hr rfl dX8_item_17 ?_
    rw [if_neg (by omega)]
  · -- X8_item 4F
    have i4 := h1.t c4
    try simp only [Int32.reduceToInt] at i4
    refine x_iload_n hκ dX8_item_7 rfl ?_
    refine x_iconst (v := 0) hκ dX8_item_8 (by decide) ?_
    refine x_iconst (v := 1) hκ dX8_item_9 (by decide) ?_
    refine x_callSi hκ mX8_in (by omega) (by decide) wX8_122 aX8_in rfl (Nat.le_of_ble_eq_true rfl) dX8_item_10 (fun r10 h10 => ?_)
    refine x_if_ne (tgt := 18) hκ dX8_item_13 (by decide) (fun c13 => ?_) (fun c13 => ?_)
    · -- X8_item 13T
      have i13 := h10.t c13
      try simp only [Int32.reduceToInt] at i13
      refine x_aload_n hκ dX8_item_18 rfl ?_
      refine t_getA hκ fl8_54 (by decide) (by decide) rfl dX8_item_19 ?_
      refine x_iload_n hκ dX8_item_22 rfl ?_
      refine t_iald (n := 2) hκ hθ (by decide) rfl rfl (by first | ((with_reducible refine vp_in_nI ?_ ?_) <;> omega) | exact i32_in (by omega) (by omega) | exact i32_in' (by simp only [Int32.toInt_add, Int32.toInt_mul, Int32.toInt_sub, Int32.reduceToInt, Int.bmod_add_bmod, Int.bmod_sub_bmod, Int.add_bmod_bmod, Int.sub_bmod_bmod, Int.bmod_mul_bmod, Int.mul_bmod_bmod]; exact i32_bm (by omega) (by omega)) (by omega) (by omega) | exact i32_in (by decide) (by decide)) (by (try simp (disch := omega) only [tS_1, tS_2, tA_1, tA_2, tF_1, tF_2, xl_0, xl_1, xl_2, Nat.reduceEqDiff, ↓reduceIte, nI_add, nI_1, nm_2, nm_3, nm_4, nm_6, nm_7, nm_8, nm_12, nm_16, nm_24, nm_40, nm_180, nm_300, nm_10210, na_0, na_2, na_3, na_4, na_5, na_6, na_7, na_8, nm_p, nm_m, nI_clamp]); exact rfl) dX8_item_23 ?_
      refine x_if_ge (tgt := 30) hκ dX8_item_24 (by decide) (fun c24 => ?_) (fun c24 => ?_)
      · -- X8_item 24T
        have i24 := c24
        simp (disch := omega) only [i32_lt, i32_le, i32_eq, Int32.reduceToInt, nI_toInt] at i24
        refine x_aload_n hκ dX8_item_30 rfl ?_
        refine t_getA hκ fl8_54 (by decide) (by decide) rfl dX8_item_31 ?_
        refine x_iload_n hκ dX8_item_34 rfl ?_
        refine t_iald (n := 2) hκ hθ (by decide) rfl rfl (by first | ((with_reducible refine vp_in_nI ?_ ?_) <;> omega) | exact i32_in (by omega) (by omega) | exact i32_in' (by simp only [Int32.toInt_add, Int32.toInt_mul, Int32.toInt_sub, Int32.reduceToInt, Int.bmod_add_bmod, Int.bmod_sub_bmod, Int.add_bmod_bmod, Int.sub_bmod_bmod, Int.bmod_mul_bmod, Int.mul_bmod_bmod]; exact i32_bm (by omega) (by omega)) (by omega) (by omega) | exact i32_in (by decide) (by decide)) (by (try simp (disch := omega) only [tS_1, tS_2, tA_1, tA_2, tF_1, tF_2, xl_0, xl_1, xl_2, Nat.reduceEqDiff, ↓reduceIte, nI_add, nI_1, nm_2, nm_3, nm_4, nm_6, nm_7, nm_8, nm_12, nm_16, nm_24, nm_40, nm_180, nm_300, nm_10210, na_0, na_2, na_3, na_4, na_5, na_6, na_7, na_8, nm_p, nm_m, nI_clamp]); exact rfl) dX8_item_35 ?_
        refine x_iload_n hκ dX8_item_36 rfl ?_
        refine x_icmp_eq (tgt := 43) hκ dX8_item_37 (by decide) (fun c37 => ?_) (fun c37 => ?_)
        · -- X8_item 37T
          have i37 := c37
          simp (disch := omega) only [i32_lt, i32_le, i32_eq, Int32.reduceToInt, nI_toInt] at i37
          refine x_iload_n hκ dX8_item_43 rfl ?_
          refine x_iconst (v := 0) hκ dX8_item_44 (by decide) ?_
          refine x_aload_n hκ dX8_item_45 rfl ?_
          refine t_getA hκ fl8_55 (by decide) (by decide) rfl dX8_item_46 ?_
          refine x_iload_n hκ dX8_item_49 rfl ?_
          refine t_iald (n := 2) hκ hθ (by decide) rfl rfl (by first | ((with_reducible refine vp_in_nI ?_ ?_) <;> omega) | exact i32_in (by omega) (by omega) | exact i32_in' (by simp only [Int32.toInt_add, Int32.toInt_mul, Int32.toInt_sub, Int32.reduceToInt, Int.bmod_add_bmod, Int.bmod_sub_bmod, Int.add_bmod_bmod, Int.sub_bmod_bmod, Int.bmod_mul_bmod, Int.mul_bmod_bmod]; exact i32_bm (by omega) (by omega)) (by omega) (by omega) | exact i32_in (by decide) (by decide)) (by (try simp (disch := omega) only [tS_1, tS_2, tA_1, tA_2, tF_1, tF_2, xl_0, xl_1, xl_2, Nat.reduceEqDiff, ↓reduceIte, nI_add, nI_1, nm_2, nm_3, nm_4, nm_6, nm_7, nm_8, nm_12, nm_16, nm_24, nm_40, nm_180, nm_300, nm_10210, na_0, na_2, na_3, na_4, na_5, na_6, na_7, na_8, nm_p, nm_m, nI_clamp]); exact rfl) dX8_item_50 ?_
          refine x_iconst (v := 1) hκ dX8_item_51 (by decide) ?_
          refine x_isubN hκ (by (try simp (disch := omega) only [tS_1, tS_2, tA_1, tA_2, tF_1, tF_2, xl_0, xl_1, xl_2, Nat.reduceEqDiff, ↓reduceIte, nI_add, nI_1, nm_2, nm_3, nm_4, nm_6, nm_7, nm_8, nm_12, nm_16, nm_24, nm_40, nm_180, nm_300, nm_10210, na_0, na_2, na_3, na_4, na_5, na_6, na_7, na_8, nm_p, nm_m, nI_clamp]); exact rfl) dX8_item_52 ?_
          refine x_callSi hκ mX8_in (by omega) (by decide) wX8_122 aX8_in rfl (Nat.le_of_ble_eq_true rfl) dX8_item_53 (fun r53 h53 => ?_)
          obtain ⟨e3, e4⟩ := e1 i4
          rw [e3] at h53
          refine x_if_ne (tgt := 62) hκ dX8_item_56 (by decide) (fun c56 => ?_) (fun c56 => ?_)
          · -- X8_item 56T
            have i56 := h53.t c56
            try simp only [Int32.reduceToInt] at i56
            obtain ⟨e5, e6⟩ := e2 i4 (by omega) (by omega)
            refine x_aload_n hκ dX8_item_62 rfl ?_
            refine t_getA hκ fl8_56 (by decide) (by decide) rfl dX8_item_63 ?_
            refine x_bipush (v := 40) hκ dX8_item_66 (by decide) ?_
            refine x_iload_n hκ dX8_item_68 rfl ?_
            refine x_imulN hκ (by (try simp (disch := omega) only [tS_1, tS_2, tA_1, tA_2, tF_1, tF_2, xl_0, xl_1, xl_2, Nat.reduceEqDiff, ↓reduceIte, nI_add, nI_1, nm_2, nm_3, nm_4, nm_6, nm_7, nm_8, nm_12, nm_16, nm_24, nm_40, nm_180, nm_300, nm_10210, na_0, na_2, na_3, na_4, na_5, na_6, na_7, na_8, nm_p, nm_m, nI_clamp, e6]); exact rfl) dX8_item_69 ?_
            refine x_iload_n hκ dX8_item_70 rfl ?_
            refine x_iaddN hκ (by (try simp (disch := omega) only [tS_1, tS_2, tA_1, tA_2, tF_1, tF_2, xl_0, xl_1, xl_2, Nat.reduceEqDiff, ↓reduceIte, nI_add, nI_1, nm_2, nm_3, nm_4, nm_6, nm_7, nm_8, nm_12, nm_16, nm_24, nm_40, nm_180, nm_300, nm_10210, na_0, na_2, na_3, na_4, na_5, na_6, na_7, na_8, nm_p, nm_m, nI_clamp, e6]); exact rfl) dX8_item_71 ?_
            refine x_iload_n hκ dX8_item_72 rfl ?_
            refine x_if_ne (tgt := 82) hκ dX8_item_73 (by decide) (fun c73 => ?_) (fun c73 => ?_)
            · -- X8_item 73T
              have i73 := c73
              simp (disch := omega) only [i32_lt, i32_le, i32_eq, Int32.reduceToInt, nI_toInt] at i73
              refine x_iload hκ dX8_item_82 rfl ?_
              refine t_iast (n := 80) hκ hθ (by decide) rfl rfl (i32_in (by rw [e5]; omega) (by rw [e5]; omega)) (by (try simp (disch := omega) only [tS_1, tS_2, tA_1, tA_2, tF_1, tF_2, xl_0, xl_1, xl_2, Nat.reduceEqDiff, ↓reduceIte, nI_add, nI_1, nm_2, nm_3, nm_4, nm_6, nm_7, nm_8, nm_12, nm_16, nm_24, nm_40, nm_180, nm_300, nm_10210, na_0, na_2, na_3, na_4, na_5, na_6, na_7, na_8, nm_p, nm_m, nI_clamp, e6]); exact rfl) dX8_item_84 ?_
              refine x_iconst (v := 1) hκ dX8_item_85 (by decide) ?_
              refine t_reti hκ hr rfl dX8_item_86 ?_
              rw [if_pos (by omega), if_neg (by omega), if_pos c37, if_pos (by omega), if_neg c73]
            · -- X8_item 73F
              have i73 := c73
              simp (disch := omega) only [i32_lt, i32_le, i32_eq, Int32.reduceToInt, nI_toInt] at i73
              refine x_iload hκ dX8_item_76 rfl ?_
              refine x_i2s hκ dX8_item_78 ?_
              refine x_goto (tgt := 84) hκ dX8_item_79 (by decide) ?_
              refine t_iast (n := 80) hκ hθ (by decide) rfl rfl (i32_in (by rw [e5]; omega) (by rw [e5]; omega)) (by (try simp (disch := omega) only [tS_1, tS_2, tA_1, tA_2, tF_1, tF_2, xl_0, xl_1, xl_2, Nat.reduceEqDiff, ↓reduceIte, nI_add, nI_1, nm_2, nm_3, nm_4, nm_6, nm_7, nm_8, nm_12, nm_16, nm_24, nm_40, nm_180, nm_300, nm_10210, na_0, na_2, na_3, na_4, na_5, na_6, na_7, na_8, nm_p, nm_m, nI_clamp, e6]); exact rfl) dX8_item_84 ?_
              refine x_iconst (v := 1) hκ dX8_item_85 (by decide) ?_
              refine t_reti hκ hr rfl dX8_item_86 ?_
              rw [if_pos (by omega), if_neg (by omega), if_pos c37, if_pos (by omega), if_pos c73]
          · -- X8_item 56F
            have i56 := h53.f c56
            try simp only [Int32.reduceToInt] at i56
            refine x_bipush (v := (-13)) hκ dX8_item_59 (by decide) ?_
            refine t_reti hκ hr rfl dX8_item_61 ?_
            rw [if_pos (by omega), if_neg (by omega), if_pos c37, if_neg (by omega)]
        · -- X8_item 37F
          have i37 := c37
          simp (disch := omega) only [i32_lt, i32_le, i32_eq, Int32.reduceToInt, nI_toInt] at i37
          refine x_bipush (v := (-12)) hκ dX8_item_40 (by decide) ?_
          refine t_reti hκ hr rfl dX8_item_42 ?_
          rw [if_pos (by omega), if_neg (by omega), if_neg c37]
      · -- X8_item 24F
        have i24 := c24
        simp (disch := omega) only [i32_lt, i32_le, i32_eq, Int32.reduceToInt, nI_toInt] at i24
        refine x_bipush (v := (-11)) hκ dX8_item_27 (by decide) ?_
        refine t_reti hκ hr rfl dX8_item_29 ?_
        rw [if_pos (by omega), if_pos (by omega)]
    · -- X8_item 13F
      have i13 := h10.f c13
      try simp only [Int32.reduceToInt] at i13
      refine x_iconst (v := (-1)) hκ dX8_item_16 (by decide) ?_
      refine t_reti hκ hr rfl dX8_item_17 ?_
      rw [if_neg (by omega)]
