theorem wX8_212 : GoodIn lw_all (wsV RX8 212 RX8 yX8_isJunk (ws_ yX8_isJunk cX8_isJunk 7 (some .boolean))) := lw_V q1470 q1472 qs53 q82 q1473
theorem aX8_isJunk : yX8_isJunk.cls = RX8 ∧ yX8_isJunk.cls ≠ "java/lang/invoke/MethodHandle" ∧ yX8_isJunk.cls ≠ "java/lang/invoke/VarHandle" ∧ (parseMethodDescriptor yX8_isJunk.desc).map (fun d => d.parameters.length) = some 1 := by decide +kernel
theorem wX8_311 : GoodIn lw_all (wsV RX8 311 RX8 yX8_isCopy (ws_ yX8_isCopy cX8_isCopy 4 (some .boolean))) := lw_V q1529 q1531 qs59 q82 q1532
theorem aX8_isCopy : yX8_isCopy.cls = RX8 ∧ yX8_isCopy.cls ≠ "java/lang/invoke/MethodHandle" ∧ yX8_isCopy.cls ≠ "java/lang/invoke/VarHandle" ∧ (parseMethodDescriptor yX8_isCopy.desc).map (fun d => d.parameters.length) = some 3 := by decide +kernel
theorem wX8_319 : GoodIn lw_all (wsV RX8 319 RX8 yX8_learns (ws_ yX8_learns cX8_learns 5 none)) := lw_V q1557 q1559 qs61 q82 q1560
theorem aX8_learns : yX8_learns.cls = RX8 ∧ yX8_learns.cls ≠ "java/lang/invoke/MethodHandle" ∧ yX8_learns.cls ≠ "java/lang/invoke/VarHandle" ∧ (parseMethodDescriptor yX8_learns.desc).map (fun d => d.parameters.length) = some 3 := by decide +kernel
/-! the reference: learning, moving -/
theorem tA_tF {σ : TS} {k i : Nat} {v : Int32} {f : Nat → Int32} : tA (tF σ k f) k i v = tF σ k (upd f i v) := by
  unfold tA tF
  refine Prod.ext rfl ?_
  funext j
  by_cases h : j = k
  · simp only [if_pos h]; rfl
  · simp only [if_neg h]
theorem tF_self (σ : TS) (k : Nat) : tF σ k (σ.2 k) = σ := by
  unfold tF
  refine Prod.ext rfl ?_
  funext j
  by_cases h : j = k
  · simp only [if_pos h]; rw [h]
  · simp only [if_neg h]
def lrnW (kw : Nat → Int32) (x b : Int32) (o : Nat) : Nat → Nat → Int32
  | 0 => kw
  | n + 1 => upd (lrnW kw x b o n) (o + n) (lrnW kw x b o n (o + n) + if (x >>> (nI n &&& 31)) &&& 1 = 1 then b else 0)
def lrn (σ : TS) (l k : Nat) (b : Int32) : TS := tF (tA σ 57 k (σ.2 57 k + b)) 58 (lrnW (σ.2 58) (σ.2 28 l) b (12 * k) 12)
theorem ix_12 {k : Int32} {i : Nat} (hk : 0 ≤ k.toInt ∧ k.toInt ≤ 1) (hi : i < 12) : ((12 : Int32) * k + nI i).toInt = 12 * k.toInt + i := by
  simp only [Int32.toInt_add, Int32.toInt_mul, Int32.reduceToInt, Int.bmod_add_bmod, nI_toInt (n := i) (by omega)]
  exact i32_bm (by omega) (by omega)
theorem ix_12n {k : Int32} {i : Nat} (hk : 0 ≤ k.toInt ∧ k.toInt ≤ 1) (hi : i < 12) : ((12 : Int32) * k + nI i).toNatClampNeg = 12 * Int32.toNatClampNeg k + i := by
  rw [i32_cl, ix_12 hk hi]
  show _ = 12 * k.toInt.toNat + i
  omega
theorem mX8_learns {E : gE} {θ : TA} (hθ : tOk θ) {σ : TS} {l k b : Int32} (hl : 0 ≤ l.toInt ∧ l.toInt ≤ 209) (hk : 0 ≤ k.toInt ∧ k.toInt ≤ 1) : TMv E θ σ yX8_learns cX8_learns 5 0 [.int l, .int k, .int b] (fun σ' => σ' = lrn σ (Int32.toNatClampNeg l) (Int32.toNatClampNeg k) b) := by
  refine TMv.of (by decide) (Nat.le_of_ble_eq_true rfl) ?_
  rintro κ rfl hL hκ hr
  have loop : ∀ (n i : Nat), i ≤ 12 → 12 - i < n → X κ (tG (kE κ) θ (tF (tA σ 57 (Int32.toNatClampNeg k) (σ.2 57 (Int32.toNatClampNeg k) + b)) 58 (lrnW (σ.2 58) (σ.2 28 (Int32.toNatClampNeg l)) b (12 * Int32.toNatClampNeg k) i))) 0 0 13 [some (.ref θ.1), some (.int l), some (.int k), some (.int b), some (.int (nI i))] [] := by
    intro n
    induction n with
    | zero => intro i h1 h2; exact absurd h2 (Nat.not_lt_zero _)
    | succ n ih =>
      intro i hi hn
      have hm := nI_toInt (n := i) (by omega)
      refine x_iload hκ dX8_learns_13 rfl ?_
      refine x_bipush (v := 12) hκ dX8_learns_15 (by decide) ?_
      refine x_icmp_ge (tgt := 61) hκ dX8_learns_17 (by decide) (fun c17 => ?_) (fun c17 => ?_)
      · -- X8_learns 17T
        have i17 := c17
        simp (disch := omega) only [i32_lt, i32_le, i32_eq, Int32.reduceToInt, nI_toInt] at i17
        refine t_retv hκ hr dX8_learns_61 ?_
        obtain rfl : i = 12 := by omega
        rfl
      · -- X8_learns 17F
        have i17 := c17
        simp (disch := omega) only [i32_lt, i32_le, i32_eq, Int32.reduceToInt, nI_toInt] at i17
        refine x_aload_n hκ dX8_learns_20 rfl ?_
        refine t_getA hκ fl8_58 (by decide) (by decide) rfl dX8_learns_21 ?_
        refine x_bipush (v := 12) hκ dX8_learns_24 (by decide) ?_
        refine x_iload_n hκ dX8_learns_26 rfl ?_
        refine x_imulN hκ (by (try simp (disch := omega) only [tS_1, tS_2, tA_1, tA_2, tF_1, tF_2, xl_0, xl_1, xl_2, Nat.reduceEqDiff, ↓reduceIte, nI_add, nI_1, nm_2, nm_3, nm_4, nm_6, nm_7, nm_8, nm_12, nm_16, nm_24, nm_40, nm_180, nm_300, nm_10210, na_0, na_2, na_3, na_4, na_5, na_6, na_7, na_8, nm_p, nm_m, nI_clamp]); exact rfl) dX8_learns_27 ?_
        refine x_iload hκ dX8_learns_28 rfl ?_
        refine x_iaddN hκ (by (try simp (disch := omega) only [tS_1, tS_2, tA_1, tA_2, tF_1, tF_2, xl_0, xl_1, xl_2, Nat.reduceEqDiff, ↓reduceIte, nI_add, nI_1, nm_2, nm_3, nm_4, nm_6, nm_7, nm_8, nm_12, nm_16, nm_24, nm_40, nm_180, nm_300, nm_10210, na_0, na_2, na_3, na_4, na_5, na_6, na_7, na_8, nm_p, nm_m, nI_clamp]); exact rfl) dX8_learns_30 ?_
        refine x_dup2 hκ dX8_learns_31 rfl rfl ?_
        refine t_iald (n := 24) hκ hθ (by decide) rfl rfl (i32_in (by rw [ix_12 hk (by omega)]; omega) (by rw [ix_12 hk (by omega)]; omega)) (by (try simp (disch := omega) only [tS_1, tS_2, tA_1, tA_2, tF_1, tF_2, xl_0, xl_1, xl_2, Nat.reduceEqDiff, ↓reduceIte, nI_add, nI_1, nm_2, nm_3, nm_4, nm_6, nm_7, nm_8, nm_12, nm_16, nm_24, nm_40, nm_180, nm_300, nm_10210, na_0, na_2, na_3, na_4, na_5, na_6, na_7, na_8, nm_p, nm_m, nI_clamp]); exact rfl) dX8_learns_32 ?_
        refine x_aload_n hκ dX8_learns_33 rfl ?_
        refine t_getA hκ fl8_28 (by decide) (by decide) rfl dX8_learns_34 ?_
        refine x_iload_n hκ dX8_learns_37 rfl ?_
        refine t_iald (n := 210) hκ hθ (by decide) rfl rfl (by first | ((with_reducible refine vp_in_nI ?_ ?_) <;> omega) | exact i32_in (by omega) (by omega) | exact i32_in' (by simp only [Int32.toInt_add, Int32.toInt_mul, Int32.toInt_sub, Int32.reduceToInt, Int.bmod_add_bmod, Int.bmod_sub_bmod, Int.add_bmod_bmod, Int.sub_bmod_bmod, Int.bmod_mul_bmod, Int.mul_bmod_bmod]; exact i32_bm (by omega) (by omega)) (by omega) (by omega) | exact i32_in (by decide) (by decide)) (by (try simp (disch := omega) only [tS_1, tS_2, tA_1, tA_2, tF_1, tF_2, xl_0, xl_1, xl_2, Nat.reduceEqDiff, ↓reduceIte, nI_add, nI_1, nm_2, nm_3, nm_4, nm_6, nm_7, nm_8, nm_12, nm_16, nm_24, nm_40, nm_180, nm_300, nm_10210, na_0, na_2, na_3, na_4, na_5, na_6, na_7, na_8, nm_p, nm_m, nI_clamp]); exact rfl) dX8_learns_38 ?_
        refine x_iload hκ dX8_learns_39 rfl ?_
        refine x_ishr hκ dX8_learns_41 ?_
        refine x_iconst (v := 1) hκ dX8_learns_42 (by decide) ?_
        refine x_iand hκ dX8_learns_43 ?_
        refine x_iconst (v := 1) hκ dX8_learns_44 (by decide) ?_
        refine x_icmp_ne (tgt := 52) hκ dX8_learns_45 (by decide) (fun c45 => ?_) (fun c45 => ?_)
        · -- X8_learns 45T
          have i45 := c45
          simp (disch := omega) only [i32_lt, i32_le, i32_eq, Int32.reduceToInt, nI_toInt] at i45
          refine x_iconst (v := 0) hκ dX8_learns_52 (by decide) ?_
          refine x_iaddN hκ (by (try simp (disch := omega) only [tS_1, tS_2, tA_1, tA_2, tF_1, tF_2, xl_0, xl_1, xl_2, Nat.reduceEqDiff, ↓reduceIte, nI_add, nI_1, nm_2, nm_3, nm_4, nm_6, nm_7, nm_8, nm_12, nm_16, nm_24, nm_40, nm_180, nm_300, nm_10210, na_0, na_2, na_3, na_4, na_5, na_6, na_7, na_8, nm_p, nm_m, nI_clamp]); exact rfl) dX8_learns_53 ?_
          refine t_iast (n := 24) hκ hθ (by decide) rfl rfl (i32_in (by rw [ix_12 hk (by omega)]; omega) (by rw [ix_12 hk (by omega)]; omega)) (by (try simp (disch := omega) only [tS_1, tS_2, tA_1, tA_2, tF_1, tF_2, xl_0, xl_1, xl_2, Nat.reduceEqDiff, ↓reduceIte, nI_add, nI_1, nm_2, nm_3, nm_4, nm_6, nm_7, nm_8, nm_12, nm_16, nm_24, nm_40, nm_180, nm_300, nm_10210, na_0, na_2, na_3, na_4, na_5, na_6, na_7, na_8, nm_p, nm_m, nI_clamp]); exact rfl) dX8_learns_54 ?_
          rw [tA_tF, ix_12n hk (by omega)]
          refine x_iincN (y := 1) hκ dX8_learns_55 (by decide) rfl (by rw [hL]; decide) rfl (by (try simp (disch := omega) only [tS_1, tS_2, tA_1, tA_2, tF_1, tF_2, xl_0, xl_1, xl_2, Nat.reduceEqDiff, ↓reduceIte, nI_add, nI_1, nm_2, nm_3, nm_4, nm_6, nm_7, nm_8, nm_12, nm_16, nm_24, nm_40, nm_180, nm_300, nm_10210, na_0, na_2, na_3, na_4, na_5, na_6, na_7, na_8, nm_p, nm_m, nI_clamp]); exact rfl) ?_
          refine x_goto (tgt := 13) hκ dX8_learns_58 (by decide) ?_
          have q := ih (i + 1) (by omega) (by omega)
          rw [lrnW, if_neg c45] at q
          exact q
        · -- X8_learns 45F
          have i45 := c45
          simp (disch := omega) only [i32_lt, i32_le, i32_eq, Int32.reduceToInt, nI_toInt] at i45
          refine x_iload_n hκ dX8_learns_48 rfl ?_
          refine x_goto (tgt := 53) hκ dX8_learns_49 (by decide) ?_
          refine x_iaddN hκ (by (try simp (disch := omega) only [tS_1, tS_2, tA_1, tA_2, tF_1, tF_2, xl_0, xl_1, xl_2, Nat.reduceEqDiff, ↓reduceIte, nI_add, nI_1, nm_2, nm_3, nm_4, nm_6, nm_7, nm_8, nm_12, nm_16, nm_24, nm_40, nm_180, nm_300, nm_10210, na_0, na_2, na_3, na_4, na_5, na_6, na_7, na_8, nm_p, nm_m, nI_clamp]); exact rfl) dX8_learns_53 ?_
          refine t_iast (n := 24) hκ hθ (by decide) rfl rfl (i32_in (by rw [ix_12 hk (by omega)]; omega) (by rw [ix_12 hk (by omega)]; omega)) (by (try simp (disch := omega) only [tS_1, tS_2, tA_1, tA_2, tF_1, tF_2, xl_0, xl_1, xl_2, Nat.reduceEqDiff, ↓reduceIte, nI_add, nI_1, nm_2, nm_3, nm_4, nm_6, nm_7, nm_8, nm_12, nm_16, nm_24, nm_40, nm_180, nm_300, nm_10210, na_0, na_2, na_3, na_4, na_5, na_6, na_7, na_8, nm_p, nm_m, nI_clamp]); exact rfl) dX8_learns_54 ?_
          rw [tA_tF, ix_12n hk (by omega)]
          refine x_iincN (y := 1) hκ dX8_learns_55 (by decide) rfl (by rw [hL]; decide) rfl (by (try simp (disch := omega) only [tS_1, tS_2, tA_1, tA_2, tF_1, tF_2, xl_0, xl_1, xl_2, Nat.reduceEqDiff, ↓reduceIte, nI_add, nI_1, nm_2, nm_3, nm_4, nm_6, nm_7, nm_8, nm_12, nm_16, nm_24, nm_40, nm_180, nm_300, nm_10210, na_0, na_2, na_3, na_4, na_5, na_6, na_7, na_8, nm_p, nm_m, nI_clamp]); exact rfl) ?_
          refine x_goto (tgt := 13) hκ dX8_learns_58 (by decide) ?_
          have q := ih (i + 1) (by omega) (by omega)
          rw [lrnW, if_pos c45] at q
          exact q
  refine x_aload_n hκ dX8_learns_0 rfl ?_
  refine t_getA hκ fl8_57 (by decide) (by decide) rfl dX8_learns_1 ?_
  refine x_iload_n hκ dX8_learns_4 rfl ?_
  refine x_dup2 hκ dX8_learns_5 rfl rfl ?_
  refine t_iald (n := 2) hκ hθ (by decide) rfl rfl (by first | ((with_reducible refine vp_in_nI ?_ ?_) <;> omega) | exact i32_in (by omega) (by omega) | exact i32_in' (by simp only [Int32.toInt_add, Int32.toInt_mul, Int32.toInt_sub, Int32.reduceToInt, Int.bmod_add_bmod, Int.bmod_sub_bmod, Int.add_bmod_bmod, Int.sub_bmod_bmod, Int.bmod_mul_bmod, Int.mul_bmod_bmod]; exact i32_bm (by omega) (by omega)) (by omega) (by omega) | exact i32_in (by decide) (by decide)) (by (try simp (disch := omega) only [tS_1, tS_2, tA_1, tA_2, tF_1, tF_2, xl_0, xl_1, xl_2, Nat.reduceEqDiff, ↓reduceIte, nI_add, nI_1, nm_2, nm_3, nm_4, nm_6, nm_7, nm_8, nm_12, nm_16, nm_24, nm_40, nm_180, nm_300, nm_10210, na_0, na_2, na_3, na_4, na_5, na_6, na_7, na_8, nm_p, nm_m, nI_clamp]); exact rfl) dX8_learns_6 ?_
  refine x_iload_n hκ dX8_learns_7 rfl ?_
  refine x_iaddN hκ (by (try simp (disch := omega) only [tS_1, tS_2, tA_1, tA_2, tF_1, tF_2, xl_0, xl_1, xl_2, Nat.reduceEqDiff, ↓reduceIte, nI_add, nI_1, nm_2, nm_3, nm_4, nm_6, nm_7, nm_8, nm_12, nm_16, nm_24, nm_40, nm_180, nm_300, nm_10210, na_0, na_2, na_3, na_4, na_5, na_6, na_7, na_8, nm_p, nm_m, nI_clamp]); exact rfl) dX8_learns_8 ?_
  refine t_iast (n := 2) hκ hθ (by decide) rfl rfl (by first | ((with_reducible refine vp_in_nI ?_ ?_) <;> omega) | exact i32_in (by omega) (by omega) | exact i32_in' (by simp only [Int32.toInt_add, Int32.toInt_mul, Int32.toInt_sub, Int32.reduceToInt, Int.bmod_add_bmod, Int.bmod_sub_bmod, Int.add_bmod_bmod, Int.sub_bmod_bmod, Int.bmod_mul_bmod, Int.mul_bmod_bmod]; exact i32_bm (by omega) (by omega)) (by omega) (by omega) | exact i32_in (by decide) (by decide)) (by (try simp (disch := omega) only [tS_1, tS_2, tA_1, tA_2, tF_1, tF_2, xl_0, xl_1, xl_2, Nat.reduceEqDiff, ↓reduceIte, nI_add, nI_1, nm_2, nm_3, nm_4, nm_6, nm_7, nm_8, nm_12, nm_16, nm_24, nm_40, nm_180, nm_300, nm_10210, na_0, na_2, na_3, na_4, na_5, na_6, na_7, na_8, nm_p, nm_m, nI_clamp]); exact rfl) dX8_learns_9 ?_
  refine x_iconst (v := 0) hκ dX8_learns_10 (by decide) ?_
  refine x_istore hκ dX8_learns_11 (by rw [hL]; decide) rfl ?_
  have q := loop 13 0 (by omega) (by omega)
  have q2 := tF_self (tA σ 57 (Int32.toNatClampNeg k) (σ.2 57 (Int32.toNatClampNeg k) + b)) 58
  rw [← q2]
  exact q
/-- a tray's copies: 0 .. 299 of letters 0 .. 209 -/
def TIc (σ : TS) : Prop := ∀ t : Nat, t < 12 → ∀ i : Nat, (i : Int) < (σ.2 40 t).toInt → 0 ≤ (σ.2 41 (300 * t + i)).toInt ∧ (σ.2 41 (300 * t + i)).toInt ≤ 209
abbrev isCp (σ : TS) (b t i : Int32) : Prop := ((0 ≤ b.toInt ∧ b.toInt ≤ 2) ∧ 0 ≤ t.toInt ∧ t.toInt ≤ 3) ∧ 0 ≤ i.toInt ∧ i.toInt < (σ.2 40 (Int32.toNatClampNeg (4 * b + t))).toInt
/-- the place of a copy -/
abbrev ca (b t i : Int32) : Nat := 300 * Int32.toNatClampNeg (4 * b + t) + Int32.toNatClampNeg i
theorem ix_300 {σ : TS} {b t i : Int32} (hT : TIt σ) (h : isCp σ b t i) : (300 * (4 * b + t) + i).toInt = (ca b t i : Int) ∧ (300 * (4 * b + t) + i).toNatClampNeg = ca b t i ∧ ca b t i < 3600 ∧ Int32.toNatClampNeg (4 * b + t) < 12 ∧ (Int32.toNatClampNeg i : Int) = i.toInt := by
  have e := ix_4 h.1.1 h.1.2
  have h1 : Int32.toNatClampNeg (4 * b + t) < 12 := by show (4 * b + t).toInt.toNat < 12; omega
  have h2 := hT _ h1
  have h3 : ((Int32.toNatClampNeg (4 * b + t) : Nat) : Int) = (4 * b + t).toInt := by show ((4 * b + t).toInt.toNat : Int) = _; omega
  have h4 : ((Int32.toNatClampNeg i : Nat) : Int) = i.toInt := by show (i.toInt.toNat : Int) = _; omega
  have h5 : (300 * (4 * b + t) + i).toInt = (ca b t i : Int) := by
    simp only [Int32.toInt_add, Int32.toInt_mul, Int32.reduceToInt, Int.bmod_add_bmod, Int.mul_bmod_bmod, ca]
    rw [i32_bm (by omega) (by omega)]
    omega
  refine ⟨h5, ?_, ?_, h1, h4⟩
  · rw [i32_cl, h5]; omega
  · simp only [ca]; omega
theorem mX8_copy {E : gE} {θ : TA} (hθ : tOk θ) {σ : TS} (hT : TIt σ) {b t i k : Int32} : TMi E θ σ yX8_copy cX8_copy 6 .int 4 [.int b, .int t, .int i, .int k] (fun r σ' => (r = if isCp σ b t i ∧ 0 ≤ k.toInt ∧ k.toInt ≤ 2 then (if k.toInt = 0 then σ.2 41 (ca b t i) else if k.toInt = 1 then (if σ.2 42 (ca b t i) = 0 then 0 else 1) else σ.2 43 (ca b t i)) else -1) ∧ σ' = σ) := by
  refine TMi.of (by decide) (Nat.le_of_ble_eq_true rfl) ?_
  rintro κ rfl hL hκ hr
  refine x_aload_n hκ dX8_copy_0 rfl ?_
  refine x_iload_n hκ dX8_copy_1 rfl ?_
  refine x_iload_n hκ dX8_copy_2 rfl ?_
  refine x_iload_n hκ dX8_copy_3 rfl ?_
  refine t_callR hκ (mX8_isCopy hθ hT) (by omega) (by decide) wX8_311 aX8_isCopy rfl (Nat.le_of_ble_eq_true rfl) dX8_copy_4 (fun r4 h4 => ?_)
  refine x_if_eq (tgt := 20) hκ dX8_copy_7 (by decide) (fun c7 => ?_) (fun c7 => ?_)
  · -- X8_copy 7T
    have i7 := h4.f c7
    try simp only [Int32.reduceToInt] at i7
    refine x_iconst (v := (-1)) hκ dX8_copy_20 (by decide) ?_
    refine t_reti hκ hr rfl dX8_copy_21 ?_
    first | (rw [if_neg (by omega)]; exact ⟨rfl, rfl⟩) | (rw [if_pos (by omega)]; exact ⟨rfl, rfl⟩) | done
  · -- X8_copy 7F
    have i7 := h4.t c7
    try simp only [Int32.reduceToInt] at i7
    refine x_iload hκ dX8_copy_10 rfl ?_
    refine x_iconst (v := 0) hκ dX8_copy_12 (by decide) ?_
    refine x_iconst (v := 2) hκ dX8_copy_13 (by decide) ?_
    refine x_callSi hκ mX8_in (by omega) (by decide) wX8_122 aX8_in rfl (Nat.le_of_ble_eq_true rfl) dX8_copy_14 (fun r14 h14 => ?_)
    refine x_if_ne (tgt := 22) hκ dX8_copy_17 (by decide) (fun c17 => ?_) (fun c17 => ?_)
    · -- X8_copy 17T
      have i17 := h14.t c17
      try simp only [Int32.reduceToInt] at i17
      refine x_sipush (v := 300) hκ dX8_copy_22 (by decide) ?_
      refine x_iconst (v := 4) hκ dX8_copy_25 (by decide) ?_
      refine x_iload_n hκ dX8_copy_26 rfl ?_
      refine x_imulN hκ (by (try simp (disch := omega) only [tS_1, tS_2, tA_1, tA_2, tF_1, tF_2, xl_0, xl_1, xl_2, Nat.reduceEqDiff, ↓reduceIte, nI_add, nI_1, nm_2, nm_3, nm_4, nm_6, nm_7, nm_8, nm_12, nm_16, nm_24, nm_40, nm_180, nm_300, nm_10210, na_0, na_2, na_3, na_4, na_5, na_6, na_7, na_8, nm_p, nm_m, nI_clamp]); exact rfl) dX8_copy_27 ?_
      refine x_iload_n hκ dX8_copy_28 rfl ?_
      refine x_iaddN hκ (by (try simp (disch := omega) only [tS_1, tS_2, tA_1, tA_2, tF_1, tF_2, xl_0, xl_1, xl_2, Nat.reduceEqDiff, ↓reduceIte, nI_add, nI_1, nm_2, nm_3, nm_4, nm_6, nm_7, nm_8, nm_12, nm_16, nm_24, nm_40, nm_180, nm_300, nm_10210, na_0, na_2, na_3, na_4, na_5, na_6, na_7, na_8, nm_p, nm_m, nI_clamp]); exact rfl) dX8_copy_29 ?_
      refine x_imulN hκ (by (try simp (disch := omega) only [tS_1, tS_2, tA_1, tA_2, tF_1, tF_2, xl_0, xl_1, xl_2, Nat.reduceEqDiff, ↓reduceIte, nI_add, nI_1, nm_2, nm_3, nm_4, nm_6, nm_7, nm_8, nm_12, nm_16, nm_24, nm_40, nm_180, nm_300, nm_10210, na_0, na_2, na_3, na_4, na_5, na_6, na_7, na_8, nm_p, nm_m, nI_clamp]); exact rfl) dX8_copy_30 ?_
      refine x_iload_n hκ dX8_copy_31 rfl ?_
      refine x_iaddN hκ (by (try simp (disch := omega) only [tS_1, tS_2, tA_1, tA_2, tF_1, tF_2, xl_0, xl_1, xl_2, Nat.reduceEqDiff, ↓reduceIte, nI_add, nI_1, nm_2, nm_3, nm_4, nm_6, nm_7, nm_8, nm_12, nm_16, nm_24, nm_40, nm_180, nm_300, nm_10210, na_0, na_2, na_3, na_4, na_5, na_6, na_7, na_8, nm_p, nm_m, nI_clamp]); exact rfl) dX8_copy_32 ?_
      obtain ⟨f1, f2, f3, -⟩ := ix_300 hT i7
      refine x_istore hκ dX8_copy_33 (by rw [hL]; decide) rfl ?_
      refine x_iload hκ dX8_copy_35 rfl ?_
      refine x_if_ne (tgt := 50) hκ dX8_copy_37 (by decide) (fun c37 => ?_) (fun c37 => ?_)
      · -- X8_copy 37T
        have i37 := c37
        simp (disch := omega) only [i32_lt, i32_le, i32_eq, Int32.reduceToInt, nI_toInt] at i37
        refine x_iload hκ dX8_copy_50 rfl ?_
        refine x_iconst (v := 1) hκ dX8_copy_52 (by decide) ?_
        refine x_icmp_ne (tgt := 74) hκ dX8_copy_53 (by decide) (fun c53 => ?_) (fun c53 => ?_)
        · -- X8_copy 53T
          have i53 := c53
          simp (disch := omega) only [i32_lt, i32_le, i32_eq, Int32.reduceToInt, nI_toInt] at i53
          refine x_aload_n hκ dX8_copy_74 rfl ?_
          refine t_getA hκ fl8_43 (by decide) (by decide) rfl dX8_copy_75 ?_
          refine x_iload hκ dX8_copy_78 rfl ?_
          refine t_iald (n := 3600) hκ hθ (by decide) rfl rfl (i32_in (by omega) (by omega)) (by (try simp (disch := omega) only [tS_1, tS_2, tA_1, tA_2, tF_1, tF_2, xl_0, xl_1, xl_2, Nat.reduceEqDiff, ↓reduceIte, nI_add, nI_1, nm_2, nm_3, nm_4, nm_6, nm_7, nm_8, nm_12, nm_16, nm_24, nm_40, nm_180, nm_300, nm_10210, na_0, na_2, na_3, na_4, na_5, na_6, na_7, na_8, nm_p, nm_m, nI_clamp]); exact rfl) dX8_copy_80 ?_
          refine t_reti hκ hr rfl dX8_copy_81 ?_
          rw [if_pos (by omega), if_neg (by omega), if_neg (by omega), ← f2]
          exact ⟨rfl, rfl⟩
        · -- X8_copy 53F
          have i53 := c53
          simp (disch := omega) only [i32_lt, i32_le, i32_eq, Int32.reduceToInt, nI_toInt] at i53
          refine x_aload_n hκ dX8_copy_56 rfl ?_
          refine t_getA hκ fl8_42 (by decide) (by decide) rfl dX8_copy_57 ?_
          refine x_iload hκ dX8_copy_60 rfl ?_
          refine t_zald (n := 3600) hκ hθ (by decide) rfl rfl (i32_in (by omega) (by omega)) (by (try simp (disch := omega) only [tS_1, tS_2, tA_1, tA_2, tF_1, tF_2, xl_0, xl_1, xl_2, Nat.reduceEqDiff, ↓reduceIte, nI_add, nI_1, nm_2, nm_3, nm_4, nm_6, nm_7, nm_8, nm_12, nm_16, nm_24, nm_40, nm_180, nm_300, nm_10210, na_0, na_2, na_3, na_4, na_5, na_6, na_7, na_8, nm_p, nm_m, nI_clamp]); exact rfl) dX8_copy_62 ?_
          refine x_if_eq (tgt := 70) hκ dX8_copy_63 (by decide) (fun c63 => ?_) (fun c63 => ?_)
          · -- X8_copy 63T
            have i63 := c63
            simp (disch := omega) only [i32_lt, i32_le, i32_eq, Int32.reduceToInt, nI_toInt] at i63
            refine x_iconst (v := 0) hκ dX8_copy_70 (by decide) ?_
            refine x_goto (tgt := 81) hκ dX8_copy_71 (by decide) ?_
            refine t_reti hκ hr rfl dX8_copy_81 ?_
            rw [if_pos (by omega), if_neg (by omega), if_pos (by omega), ← f2, if_pos c63]
            exact ⟨rfl, rfl⟩
          · -- X8_copy 63F
            have i63 := c63
            simp (disch := omega) only [i32_lt, i32_le, i32_eq, Int32.reduceToInt, nI_toInt] at i63
            refine x_iconst (v := 1) hκ dX8_copy_66 (by decide) ?_
            refine x_goto (tgt := 81) hκ dX8_copy_67 (by decide) ?_
            refine t_reti hκ hr rfl dX8_copy_81 ?_
            rw [if_pos (by omega), if_neg (by omega), if_pos (by omega), ← f2, if_neg c63]
            exact ⟨rfl, rfl⟩
      · -- X8_copy 37F
        have i37 := c37
        simp (disch := omega) only [i32_lt, i32_le, i32_eq, Int32.reduceToInt, nI_toInt] at i37
        refine x_aload_n hκ dX8_copy_40 rfl ?_
        refine t_getA hκ fl8_41 (by decide) (by decide) rfl dX8_copy_41 ?_
        refine x_iload hκ dX8_copy_44 rfl ?_
        refine t_iald (n := 3600) hκ hθ (by decide) rfl rfl (i32_in (by omega) (by omega)) (by (try simp (disch := omega) only [tS_1, tS_2, tA_1, tA_2, tF_1, tF_2, xl_0, xl_1, xl_2, Nat.reduceEqDiff, ↓reduceIte, nI_add, nI_1, nm_2, nm_3, nm_4, nm_6, nm_7, nm_8, nm_12, nm_16, nm_24, nm_40, nm_180, nm_300, nm_10210, na_0, na_2, na_3, na_4, na_5, na_6, na_7, na_8, nm_p, nm_m, nI_clamp]); exact rfl) dX8_copy_46 ?_
        refine x_goto (tgt := 81) hκ dX8_copy_47 (by decide) ?_
        refine t_reti hκ hr rfl dX8_copy_81 ?_
        rw [if_pos (by omega), if_pos (by omega), ← f2]
        exact ⟨rfl, rfl⟩
    · -- X8_copy 17F
      have i17 := h14.f c17
      try simp only [Int32.reduceToInt] at i17
      refine x_iconst (v := (-1)) hκ dX8_copy_20 (by decide) ?_
      refine t_reti hκ hr rfl dX8_copy_21 ?_
      first | (rw [if_neg (by omega)]; exact ⟨rfl, rfl⟩) | (rw [if_pos (by omega)]; exact ⟨rfl, rfl⟩) | done
theorem mX8_learn {E : gE} {θ : TA} (hθ : tOk θ) {σ : TS} (hT : TIt σ) (hC : TIc σ) {b t i z : Int32} : TMi E θ σ yX8_learn cX8_learn 7 .int 4 [.int b, .int t, .int i, .int z] (fun r σ' => (r, σ') = if isCp σ b t i then (if σ.2 43 (ca b t i) = 0 then (if σ.2 57 (if z = 0 then 1 else 0) = 60 then (-3, σ) else (σ.2 57 (if z = 0 then 1 else 0) + 1, lrn (tA σ 43 (ca b t i) (if z = 0 then 2 else 1)) (Int32.toNatClampNeg (σ.2 41 (ca b t i))) (if z = 0 then 1 else 0) 1)) else (-2, σ)) else (-1, σ)) := by
  refine TMi.of (by decide) (Nat.le_of_ble_eq_true rfl) ?_
  rintro κ rfl hL hκ hr
  refine x_aload_n hκ dX8_learn_0 rfl ?_
  refine x_iload_n hκ dX8_learn_1 rfl ?_
  refine x_iload_n hκ dX8_learn_2 rfl ?_
  refine x_iload_n hκ dX8_learn_3 rfl ?_
  refine t_callR hκ (mX8_isCopy hθ hT) (by omega) (by decide) wX8_311 aX8_isCopy rfl (Nat.le_of_ble_eq_true rfl) dX8_learn_4 (fun r4 h4 => ?_)
  refine x_if_ne (tgt := 12) hκ dX8_learn_7 (by decide) (fun c7 => ?_) (fun c7 => ?_)
  · -- X8_learn 7T
    have i7 := h4.t c7
    try simp only [Int32.reduceToInt] at i7
    refine x_sipush (v := 300) hκ dX8_learn_12 (by decide) ?_
    refine x_iconst (v := 4) hκ dX8_learn_15 (by decide) ?_
    refine x_iload_n hκ dX8_learn_16 rfl ?_
    refine x_imulN hκ (by (try simp (disch := omega) only [tS_1, tS_2, tA_1, tA_2, tF_1, tF_2, xl_0, xl_1, xl_2, Nat.reduceEqDiff, ↓reduceIte, nI_add, nI_1, nm_2, nm_3, nm_4, nm_6, nm_7, nm_8, nm_12, nm_16, nm_24, nm_40, nm_180, nm_300, nm_10210, na_0, na_2, na_3, na_4, na_5, na_6, na_7, na_8, nm_p, nm_m, nI_clamp]); exact rfl) dX8_learn_17 ?_
    refine x_iload_n hκ dX8_learn_18 rfl ?_
    refine x_iaddN hκ (by (try simp (disch := omega) only [tS_1, tS_2, tA_1, tA_2, tF_1, tF_2, xl_0, xl_1, xl_2, Nat.reduceEqDiff, ↓reduceIte, nI_add, nI_1, nm_2, nm_3, nm_4, nm_6, nm_7, nm_8, nm_12, nm_16, nm_24, nm_40, nm_180, nm_300, nm_10210, na_0, na_2, na_3, na_4, na_5, na_6, na_7, na_8, nm_p, nm_m, nI_clamp]); exact rfl) dX8_learn_19 ?_
    refine x_imulN hκ (by (try simp (disch := omega) only [tS_1, tS_2, tA_1, tA_2, tF_1, tF_2, xl_0, xl_1, xl_2, Nat.reduceEqDiff, ↓reduceIte, nI_add, nI_1, nm_2, nm_3, nm_4, nm_6, nm_7, nm_8, nm_12, nm_16, nm_24, nm_40, nm_180, nm_300, nm_10210, na_0, na_2, na_3, na_4, na_5, na_6, na_7, na_8, nm_p, nm_m, nI_clamp]); exact rfl) dX8_learn_20 ?_
    refine x_iload_n hκ dX8_learn_21 rfl ?_
    refine x_iaddN hκ (by (try simp (disch := omega) only [tS_1, tS_2, tA_1, tA_2, tF_1, tF_2, xl_0, xl_1, xl_2, Nat.reduceEqDiff, ↓reduceIte, nI_add, nI_1, nm_2, nm_3, nm_4, nm_6, nm_7, nm_8, nm_12, nm_16, nm_24, nm_40, nm_180, nm_300, nm_10210, na_0, na_2, na_3, na_4, na_5, na_6, na_7, na_8, nm_p, nm_m, nI_clamp]); exact rfl) dX8_learn_22 ?_
    obtain ⟨f1, f2, f3, f4, f5⟩ := ix_300 hT i7
    have f6 : 0 ≤ (σ.2 41 (ca b t i)).toInt ∧ (σ.2 41 (ca b t i)).toInt ≤ 209 := hC _ f4 (Int32.toNatClampNeg i) (by omega)
    refine x_istore hκ dX8_learn_23 (by rw [hL]; decide) rfl ?_
    refine x_aload_n hκ dX8_learn_25 rfl ?_
    refine t_getA hκ fl8_43 (by decide) (by decide) rfl dX8_learn_26 ?_
    refine x_iload hκ dX8_learn_29 rfl ?_
    refine t_iald (n := 3600) hκ hθ (by decide) rfl rfl (by first | ((with_reducible refine vp_in_nI ?_ ?_) <;> omega) | exact i32_in (by omega) (by omega) | exact i32_in' (by simp only [Int32.toInt_add, Int32.toInt_mul, Int32.toInt_sub, Int32.reduceToInt, Int.bmod_add_bmod, Int.bmod_sub_bmod, Int.add_bmod_bmod, Int.sub_bmod_bmod, Int.bmod_mul_bmod, Int.mul_bmod_bmod]; exact i32_bm (by omega) (by omega)) (by omega) (by omega) | exact i32_in (by decide) (by decide)) (by (try simp (disch := omega) only [tS_1, tS_2, tA_1, tA_2, tF_1, tF_2, xl_0, xl_1, xl_2, Nat.reduceEqDiff, ↓reduceIte, nI_add, nI_1, nm_2, nm_3, nm_4, nm_6, nm_7, nm_8, nm_12, nm_16, nm_24, nm_40, nm_180, nm_300, nm_10210, na_0, na_2, na_3, na_4, na_5, na_6, na_7, na_8, nm_p, nm_m, nI_clamp]); exact rfl) dX8_learn_31 ?_
    refine x_if_eq (tgt := 38) hκ dX8_learn_32 (by decide) (fun c32 => ?_) (fun c32 => ?_)
    · -- X8_learn 32T
      have i32 := c32
      simp (disch := omega) only [i32_lt, i32_le, i32_eq, Int32.reduceToInt, nI_toInt] at i32
      refine x_iload hκ dX8_learn_38 rfl ?_
      refine x_if_eq (tgt := 47) hκ dX8_learn_40 (by decide) (fun c40 => ?_) (fun c40 => ?_)
      · -- X8_learn 40T
        have i40 := c40
        simp (disch := omega) only [i32_lt, i32_le, i32_eq, Int32.reduceToInt, nI_toInt] at i40
        refine x_iconst (v := 1) hκ dX8_learn_47 (by decide) ?_
        refine x_istore hκ dX8_learn_48 (by rw [hL]; decide) rfl ?_
        refine x_aload_n hκ dX8_learn_50 rfl ?_
        refine t_getA hκ fl8_57 (by decide) (by decide) rfl dX8_learn_51 ?_
        refine x_iload hκ dX8_learn_54 rfl ?_
        refine t_iald (n := 2) hκ hθ (by decide) rfl rfl (by first | ((with_reducible refine vp_in_nI ?_ ?_) <;> omega) | exact i32_in (by omega) (by omega) | exact i32_in' (by simp only [Int32.toInt_add, Int32.toInt_mul, Int32.toInt_sub, Int32.reduceToInt, Int.bmod_add_bmod, Int.bmod_sub_bmod, Int.add_bmod_bmod, Int.sub_bmod_bmod, Int.bmod_mul_bmod, Int.mul_bmod_bmod]; exact i32_bm (by omega) (by omega)) (by omega) (by omega) | exact i32_in (by decide) (by decide)) (by (try simp (disch := omega) only [tS_1, tS_2, tA_1, tA_2, tF_1, tF_2, xl_0, xl_1, xl_2, Nat.reduceEqDiff, ↓reduceIte, nI_add, nI_1, nm_2, nm_3, nm_4, nm_6, nm_7, nm_8, nm_12, nm_16, nm_24, nm_40, nm_180, nm_300, nm_10210, na_0, na_2, na_3, na_4, na_5, na_6, na_7, na_8, nm_p, nm_m, nI_clamp]); exact rfl) dX8_learn_56 ?_
        refine x_bipush (v := 60) hκ dX8_learn_57 (by decide) ?_
        refine x_icmp_ne (tgt := 65) hκ dX8_learn_59 (by decide) (fun c59 => ?_) (fun c59 => ?_)
        · -- X8_learn 59T
          have i59 := c59
          simp (disch := omega) only [i32_lt, i32_le, i32_eq, Int32.reduceToInt, nI_toInt] at i59
          refine x_aload_n hκ dX8_learn_65 rfl ?_
          refine t_getA hκ fl8_43 (by decide) (by decide) rfl dX8_learn_66 ?_
          refine x_iload hκ dX8_learn_69 rfl ?_
          refine x_iload hκ dX8_learn_71 rfl ?_
          refine x_iconst (v := 1) hκ dX8_learn_73 (by decide) ?_
          refine x_iaddN hκ (by (try simp (disch := omega) only [tS_1, tS_2, tA_1, tA_2, tF_1, tF_2, xl_0, xl_1, xl_2, Nat.reduceEqDiff, ↓reduceIte, nI_add, nI_1, nm_2, nm_3, nm_4, nm_6, nm_7, nm_8, nm_12, nm_16, nm_24, nm_40, nm_180, nm_300, nm_10210, na_0, na_2, na_3, na_4, na_5, na_6, na_7, na_8, nm_p, nm_m, nI_clamp]); exact rfl) dX8_learn_74 ?_
          refine t_iast (n := 3600) hκ hθ (by decide) rfl rfl (by first | ((with_reducible refine vp_in_nI ?_ ?_) <;> omega) | exact i32_in (by omega) (by omega) | exact i32_in' (by simp only [Int32.toInt_add, Int32.toInt_mul, Int32.toInt_sub, Int32.reduceToInt, Int.bmod_add_bmod, Int.bmod_sub_bmod, Int.add_bmod_bmod, Int.sub_bmod_bmod, Int.bmod_mul_bmod, Int.mul_bmod_bmod]; exact i32_bm (by omega) (by omega)) (by omega) (by omega) | exact i32_in (by decide) (by decide)) (by (try simp (disch := omega) only [tS_1, tS_2, tA_1, tA_2, tF_1, tF_2, xl_0, xl_1, xl_2, Nat.reduceEqDiff, ↓reduceIte, nI_add, nI_1, nm_2, nm_3, nm_4, nm_6, nm_7, nm_8, nm_12, nm_16, nm_24, nm_40, nm_180, nm_300, nm_10210, na_0, na_2, na_3, na_4, na_5, na_6, na_7, na_8, nm_p, nm_m, nI_clamp]); exact rfl) dX8_learn_75 ?_
          refine x_aload_n hκ dX8_learn_76 rfl ?_
          refine x_aload_n hκ dX8_learn_77 rfl ?_
          refine t_getA hκ fl8_41 (by decide) (by decide) rfl dX8_learn_78 ?_
          refine x_iload hκ dX8_learn_81 rfl ?_
          refine t_iald (n := 3600) hκ hθ (by decide) rfl rfl (by first | ((with_reducible refine vp_in_nI ?_ ?_) <;> omega) | exact i32_in (by omega) (by omega) | exact i32_in' (by simp only [Int32.toInt_add, Int32.toInt_mul, Int32.toInt_sub, Int32.reduceToInt, Int.bmod_add_bmod, Int.bmod_sub_bmod, Int.add_bmod_bmod, Int.sub_bmod_bmod, Int.bmod_mul_bmod, Int.mul_bmod_bmod]; exact i32_bm (by omega) (by omega)) (by omega) (by omega) | exact i32_in (by decide) (by decide)) (by (try simp (disch := omega) only [tS_1, tS_2, tA_1, tA_2, tF_1, tF_2, xl_0, xl_1, xl_2, Nat.reduceEqDiff, ↓reduceIte, nI_add, nI_1, nm_2, nm_3, nm_4, nm_6, nm_7, nm_8, nm_12, nm_16, nm_24, nm_40, nm_180, nm_300, nm_10210, na_0, na_2, na_3, na_4, na_5, na_6, na_7, na_8, nm_p, nm_m, nI_clamp]); exact rfl) dX8_learn_83 ?_
          refine x_iload hκ dX8_learn_84 rfl ?_
          refine x_iconst (v := 1) hκ dX8_learn_86 (by decide) ?_
          refine t_callv hκ (mX8_learns hθ (by show _ ∧ _; rw [f2]; exact f6) (by decide)) (by omega) (by decide) wX8_319 aX8_learns rfl (Nat.le_of_ble_eq_true rfl) dX8_learn_87 (fun σ87 h87 => ?_)
          subst h87
          refine x_aload_n hκ dX8_learn_90 rfl ?_
          refine t_getA hκ fl8_57 (by decide) (by decide) rfl dX8_learn_91 ?_
          refine x_iload hκ dX8_learn_94 rfl ?_
          refine t_iald (n := 2) hκ hθ (by decide) rfl rfl (by first | ((with_reducible refine vp_in_nI ?_ ?_) <;> omega) | exact i32_in (by omega) (by omega) | exact i32_in' (by simp only [Int32.toInt_add, Int32.toInt_mul, Int32.toInt_sub, Int32.reduceToInt, Int.bmod_add_bmod, Int.bmod_sub_bmod, Int.add_bmod_bmod, Int.sub_bmod_bmod, Int.bmod_mul_bmod, Int.mul_bmod_bmod]; exact i32_bm (by omega) (by omega)) (by omega) (by omega) | exact i32_in (by decide) (by decide)) (by (try simp (disch := omega) only [tS_1, tS_2, tA_1, tA_2, tF_1, tF_2, xl_0, xl_1, xl_2, Nat.reduceEqDiff, ↓reduceIte, nI_add, nI_1, nm_2, nm_3, nm_4, nm_6, nm_7, nm_8, nm_12, nm_16, nm_24, nm_40, nm_180, nm_300, nm_10210, na_0, na_2, na_3, na_4, na_5, na_6, na_7, na_8, nm_p, nm_m, nI_clamp]); exact rfl) dX8_learn_96 ?_
          refine t_reti hκ hr rfl dX8_learn_97 ?_
          rw [if_pos i7, ← f2, if_pos c32, if_pos c40, if_neg c59, if_pos c40]
          rfl
        · -- X8_learn 59F
          have i59 := c59
          simp (disch := omega) only [i32_lt, i32_le, i32_eq, Int32.reduceToInt, nI_toInt] at i59
          refine x_bipush (v := (-3)) hκ dX8_learn_62 (by decide) ?_
          refine t_reti hκ hr rfl dX8_learn_64 ?_
          rw [if_pos i7, ← f2, if_pos c32, if_pos c40, if_pos c59]
      · -- X8_learn 40F
        have i40 := c40
        simp (disch := omega) only [i32_lt, i32_le, i32_eq, Int32.reduceToInt, nI_toInt] at i40
        refine x_iconst (v := 0) hκ dX8_learn_43 (by decide) ?_
        refine x_goto (tgt := 48) hκ dX8_learn_44 (by decide) ?_
        refine x_istore hκ dX8_learn_48 (by rw [hL]; decide) rfl ?_
        refine x_aload_n hκ dX8_learn_50 rfl ?_
        refine t_getA hκ fl8_57 (by decide) (by decide) rfl dX8_learn_51 ?_
        refine x_iload hκ dX8_learn_54 rfl ?_
        refine t_iald (n := 2) hκ hθ (by decide) rfl rfl (by first | ((with_reducible refine vp_in_nI ?_ ?_) <;> omega) | exact i32_in (by omega) (by omega) | exact i32_in' (by simp only [Int32.toInt_add, Int32.toInt_mul, Int32.toInt_sub, Int32.reduceToInt, Int.bmod_add_bmod, Int.bmod_sub_bmod, Int.add_bmod_bmod, Int.sub_bmod_bmod, Int.bmod_mul_bmod, Int.mul_bmod_bmod]; exact i32_bm (by omega) (by omega)) (by omega) (by omega) | exact i32_in (by decide) (by decide)) (by (try simp (disch := omega) only [tS_1, tS_2, tA_1, tA_2, tF_1, tF_2, xl_0, xl_1, xl_2, Nat.reduceEqDiff, ↓reduceIte, nI_add, nI_1, nm_2, nm_3, nm_4, nm_6, nm_7, nm_8, nm_12, nm_16, nm_24, nm_40, nm_180, nm_300, nm_10210, na_0, na_2, na_3, na_4, na_5, na_6, na_7, na_8, nm_p, nm_m, nI_clamp]); exact rfl) dX8_learn_56 ?_
        refine x_bipush (v := 60) hκ dX8_learn_57 (by decide) ?_
        refine x_icmp_ne (tgt := 65) hκ dX8_learn_59 (by decide) (fun c59 => ?_) (fun c59 => ?_)
        · -- X8_learn 59T
          have i59 := c59
          simp (disch := omega) only [i32_lt, i32_le, i32_eq, Int32.reduceToInt, nI_toInt] at i59
          refine x_aload_n hκ dX8_learn_65 rfl ?_
          refine t_getA hκ fl8_43 (by decide) (by decide) rfl dX8_learn_66 ?_
          refine x_iload hκ dX8_learn_69 rfl ?_
          refine x_iload hκ dX8_learn_71 rfl ?_
          refine x_iconst (v := 1) hκ dX8_learn_73 (by decide) ?_
          refine x_iaddN hκ (by (try simp (disch := omega) only [tS_1, tS_2, tA_1, tA_2, tF_1, tF_2, xl_0, xl_1, xl_2, Nat.reduceEqDiff, ↓reduceIte, nI_add, nI_1, nm_2, nm_3, nm_4, nm_6, nm_7, nm_8, nm_12, nm_16, nm_24, nm_40, nm_180, nm_300, nm_10210, na_0, na_2, na_3, na_4, na_5, na_6, na_7, na_8, nm_p, nm_m, nI_clamp]); exact rfl) dX8_learn_74 ?_
          refine t_iast (n := 3600) hκ hθ (by decide) rfl rfl (by first | ((with_reducible refine vp_in_nI ?_ ?_) <;> omega) | exact i32_in (by omega) (by omega) | exact i32_in' (by simp only [Int32.toInt_add, Int32.toInt_mul, Int32.toInt_sub, Int32.reduceToInt, Int.bmod_add_bmod, Int.bmod_sub_bmod, Int.add_bmod_bmod, Int.sub_bmod_bmod, Int.bmod_mul_bmod, Int.mul_bmod_bmod]; exact i32_bm (by omega) (by omega)) (by omega) (by omega) | exact i32_in (by decide) (by decide)) (by (try simp (disch := omega) only [tS_1, tS_2, tA_1, tA_2, tF_1, tF_2, xl_0, xl_1, xl_2, Nat.reduceEqDiff, ↓reduceIte, nI_add, nI_1, nm_2, nm_3, nm_4, nm_6, nm_7, nm_8, nm_12, nm_16, nm_24, nm_40, nm_180, nm_300, nm_10210, na_0, na_2, na_3, na_4, na_5, na_6, na_7, na_8, nm_p, nm_m, nI_clamp]); exact rfl) dX8_learn_75 ?_
          refine x_aload_n hκ dX8_learn_76 rfl ?_
          refine x_aload_n hκ dX8_learn_77 rfl ?_
          refine t_getA hκ fl8_41 (by decide) (by decide) rfl dX8_learn_78 ?_
          refine x_iload hκ dX8_learn_81 rfl ?_
          refine t_iald (n := 3600) hκ hθ (by decide) rfl rfl (by first | ((with_reducible refine vp_in_nI ?_ ?_) <;> omega) | exact i32_in (by omega) (by omega) | exact i32_in' (by simp only [Int32.toInt_add, Int32.toInt_mul, Int32.toInt_sub, Int32.reduceToInt, Int.bmod_add_bmod, Int.bmod_sub_bmod, Int.add_bmod_bmod, Int.sub_bmod_bmod, Int.bmod_mul_bmod, Int.mul_bmod_bmod]; exact i32_bm (by omega) (by omega)) (by omega) (by omega) | exact i32_in (by decide) (by decide)) (by (try simp (disch := omega) only [tS_1, tS_2, tA_1, tA_2, tF_1, tF_2, xl_0, xl_1, xl_2, Nat.reduceEqDiff, ↓reduceIte, nI_add, nI_1, nm_2, nm_3, nm_4, nm_6, nm_7, nm_8, nm_12, nm_16, nm_24, nm_40, nm_180, nm_300, nm_10210, na_0, na_2, na_3, na_4, na_5, na_6, na_7, na_8, nm_p, nm_m, nI_clamp]); exact rfl) dX8_learn_83 ?_
          refine x_iload hκ dX8_learn_84 rfl ?_
          refine x_iconst (v := 1) hκ dX8_learn_86 (by decide) ?_
          refine t_callv hκ (mX8_learns hθ (by show _ ∧ _; rw [f2]; exact f6) (by decide)) (by omega) (by decide) wX8_319 aX8_learns rfl (Nat.le_of_ble_eq_true rfl) dX8_learn_87 (fun σ87 h87 => ?_)
          subst h87
          refine x_aload_n hκ dX8_learn_90 rfl ?_
          refine t_getA hκ fl8_57 (by decide) (by decide) rfl dX8_learn_91 ?_
          refine x_iload hκ dX8_learn_94 rfl ?_
          refine t_iald (n := 2) hκ hθ (by decide) rfl rfl (by first | ((with_reducible refine vp_in_nI ?_ ?_) <;> omega) | exact i32_in (by omega) (by omega) | exact i32_in' (by simp only [Int32.toInt_add, Int32.toInt_mul, Int32.toInt_sub, Int32.reduceToInt, Int.bmod_add_bmod, Int.bmod_sub_bmod, Int.add_bmod_bmod, Int.sub_bmod_bmod, Int.bmod_mul_bmod, Int.mul_bmod_bmod]; exact i32_bm (by omega) (by omega)) (by omega) (by omega) | exact i32_in (by decide) (by decide)) (by (try simp (disch := omega) only [tS_1, tS_2, tA_1, tA_2, tF_1, tF_2, xl_0, xl_1, xl_2, Nat.reduceEqDiff, ↓reduceIte, nI_add, nI_1, nm_2, nm_3, nm_4, nm_6, nm_7, nm_8, nm_12, nm_16, nm_24, nm_40, nm_180, nm_300, nm_10210, na_0, na_2, na_3, na_4, na_5, na_6, na_7, na_8, nm_p, nm_m, nI_clamp]); exact rfl) dX8_learn_96 ?_
          refine t_reti hκ hr rfl dX8_learn_97 ?_
          rw [if_pos i7, ← f2, if_pos c32, if_neg c40, if_neg c59, if_neg c40]
          rfl
        · -- X8_learn 59F
          have i59 := c59
          simp (disch := omega) only [i32_lt, i32_le, i32_eq, Int32.reduceToInt, nI_toInt] at i59
          refine x_bipush (v := (-3)) hκ dX8_learn_62 (by decide) ?_
          refine t_reti hκ hr rfl dX8_learn_64 ?_
          rw [if_pos i7, ← f2, if_pos c32, if_neg c40, if_pos c59]
    · -- X8_learn 32F
      have i32 := c32
      simp (disch := omega) only [i32_lt, i32_le, i32_eq, Int32.reduceToInt, nI_toInt] at i32
      refine x_bipush (v := (-2)) hκ dX8_learn_35 (by decide) ?_
      refine t_reti hκ hr rfl dX8_learn_37 ?_
      rw [if_pos i7, ← f2, if_neg c32]
  · -- X8_learn 7F
    have i7 := h4.f c7
    try simp only [Int32.reduceToInt] at i7
    refine x_iconst (v := (-1)) hκ dX8_learn_10 (by decide) ?_
    refine t_reti hκ hr rfl dX8_learn_11 ?_
    rw [if_neg i7]
theorem mX8_unlearn {E : gE} {θ : TA} (hθ : tOk θ) {σ : TS} (hT : TIt σ) (hC : TIc σ) (hN : ∀ t : Nat, t < 12 → ∀ i : Nat, (i : Int) < (σ.2 40 t).toInt → 0 ≤ (σ.2 43 (300 * t + i)).toInt ∧ (σ.2 43 (300 * t + i)).toInt ≤ 2) {b t i : Int32} : TMi E θ σ yX8_unlearn cX8_unlearn 6 .int 4 [.int b, .int t, .int i] (fun r σ' => (r, σ') = if isCp σ b t i then (if σ.2 43 (ca b t i) = 0 then (-2, σ) else (σ.2 57 (Int32.toNatClampNeg (σ.2 43 (ca b t i) - 1)) + (-1), lrn (tA σ 43 (ca b t i) 0) (Int32.toNatClampNeg (σ.2 41 (ca b t i))) (Int32.toNatClampNeg (σ.2 43 (ca b t i) - 1)) (-1))) else (-1, σ)) := by
  refine TMi.of (by decide) (Nat.le_of_ble_eq_true rfl) ?_
  rintro κ rfl hL hκ hr
  refine x_aload_n hκ dX8_unlearn_0 rfl ?_
  refine x_iload_n hκ dX8_unlearn_1 rfl ?_
  refine x_iload_n hκ dX8_unlearn_2 rfl ?_
  refine x_iload_n hκ dX8_unlearn_3 rfl ?_
  refine t_callR hκ (mX8_isCopy hθ hT) (by omega) (by decide) wX8_311 aX8_isCopy rfl (Nat.le_of_ble_eq_true rfl) dX8_unlearn_4 (fun r4 h4 => ?_)
  refine x_if_ne (tgt := 12) hκ dX8_unlearn_7 (by decide) (fun c7 => ?_) (fun c7 => ?_)
  · -- X8_unlearn 7T
    have i7 := h4.t c7
    try simp only [Int32.reduceToInt] at i7
    refine x_sipush (v := 300) hκ dX8_unlearn_12 (by decide) ?_
    refine x_iconst (v := 4) hκ dX8_unlearn_15 (by decide) ?_
    refine x_iload_n hκ dX8_unlearn_16 rfl ?_
    refine x_imulN hκ (by (try simp (disch := omega) only [tS_1, tS_2, tA_1, tA_2, tF_1, tF_2, xl_0, xl_1, xl_2, Nat.reduceEqDiff, ↓reduceIte, nI_add, nI_1, nm_2, nm_3, nm_4, nm_6, nm_7, nm_8, nm_12, nm_16, nm_24, nm_40, nm_180, nm_300, nm_10210, na_0, na_2, na_3, na_4, na_5, na_6, na_7, na_8, nm_p, nm_m, nI_clamp]); exact rfl) dX8_unlearn_17 ?_
    refine x_iload_n hκ dX8_unlearn_18 rfl ?_
    refine x_iaddN hκ (by (try simp (disch := omega) only [tS_1, tS_2, tA_1, tA_2, tF_1, tF_2, xl_0, xl_1, xl_2, Nat.reduceEqDiff, ↓reduceIte, nI_add, nI_1, nm_2, nm_3, nm_4, nm_6, nm_7, nm_8, nm_12, nm_16, nm_24, nm_40, nm_180, nm_300, nm_10210, na_0, na_2, na_3, na_4, na_5, na_6, na_7, na_8, nm_p, nm_m, nI_clamp]); exact rfl) dX8_unlearn_19 ?_
    refine x_imulN hκ (by (try simp (disch := omega) only [tS_1, tS_2, tA_1, tA_2, tF_1, tF_2, xl_0, xl_1, xl_2, Nat.reduceEqDiff, ↓reduceIte, nI_add, nI_1, nm_2, nm_3, nm_4, nm_6, nm_7, nm_8, nm_12, nm_16, nm_24, nm_40, nm_180, nm_300, nm_10210, na_0, na_2, na_3, na_4, na_5, na_6, na_7, na_8, nm_p, nm_m, nI_clamp]); exact rfl) dX8_unlearn_20 ?_
    refine x_iload_n hκ dX8_unlearn_21 rfl ?_
    refine x_iaddN hκ (by (try simp (disch := omega) only [tS_1, tS_2, tA_1, tA_2, tF_1, tF_2, xl_0, xl_1, xl_2, Nat.reduceEqDiff, ↓reduceIte, nI_add, nI_1, nm_2, nm_3, nm_4, nm_6, nm_7, nm_8, nm_12, nm_16, nm_24, nm_40, nm_180, nm_300, nm_10210, na_0, na_2, na_3, na_4, na_5, na_6, na_7, na_8, nm_p, nm_m, nI_clamp]); exact rfl) dX8_unlearn_22 ?_
    obtain ⟨f1, f2, f3, f4, f5⟩ := ix_300 hT i7
    have f6 : 0 ≤ (σ.2 41 (ca b t i)).toInt ∧ (σ.2 41 (ca b t i)).toInt ≤ 209 := hC _ f4 (Int32.toNatClampNeg i) (by omega)
    have f7 : 0 ≤ (σ.2 43 (ca b t i)).toInt ∧ (σ.2 43 (ca b t i)).toInt ≤ 2 := hN _ f4 (Int32.toNatClampNeg i) (by omega)
    refine x_istore hκ dX8_unlearn_23 (by rw [hL]; decide) rfl ?_
    refine x_aload_n hκ dX8_unlearn_25 rfl ?_
    refine t_getA hκ fl8_43 (by decide) (by decide) rfl dX8_unlearn_26 ?_
    refine x_iload hκ dX8_unlearn_29 rfl ?_
    refine t_iald (n := 3600) hκ hθ (by decide) rfl rfl (by first | ((with_reducible refine vp_in_nI ?_ ?_) <;> omega) | exact i32_in (by omega) (by omega) | exact i32_in' (by simp only [Int32.toInt_add, Int32.toInt_mul, Int32.toInt_sub, Int32.reduceToInt, Int.bmod_add_bmod, Int.bmod_sub_bmod, Int.add_bmod_bmod, Int.sub_bmod_bmod, Int.bmod_mul_bmod, Int.mul_bmod_bmod]; exact i32_bm (by omega) (by omega)) (by omega) (by omega) | exact i32_in (by decide) (by decide)) (by (try simp (disch := omega) only [tS_1, tS_2, tA_1, tA_2, tF_1, tF_2, xl_0, xl_1, xl_2, Nat.reduceEqDiff, ↓reduceIte, nI_add, nI_1, nm_2, nm_3, nm_4, nm_6, nm_7, nm_8, nm_12, nm_16, nm_24, nm_40, nm_180, nm_300, nm_10210, na_0, na_2, na_3, na_4, na_5, na_6, na_7, na_8, nm_p, nm_m, nI_clamp, f2]); exact rfl) dX8_unlearn_31 ?_
    refine x_if_ne (tgt := 38) hκ dX8_unlearn_32 (by decide) (fun c32 => ?_) (fun c32 => ?_)
    · -- X8_unlearn 32T
      have i32 := c32
      simp (disch := omega) only [i32_lt, i32_le, i32_eq, Int32.reduceToInt, nI_toInt] at i32
      refine x_aload_n hκ dX8_unlearn_38 rfl ?_
      refine t_getA hκ fl8_43 (by decide) (by decide) rfl dX8_unlearn_39 ?_
      refine x_iload hκ dX8_unlearn_42 rfl ?_
      refine t_iald (n := 3600) hκ hθ (by decide) rfl rfl (by first | ((with_reducible refine vp_in_nI ?_ ?_) <;> omega) | exact i32_in (by omega) (by omega) | exact i32_in' (by simp only [Int32.toInt_add, Int32.toInt_mul, Int32.toInt_sub, Int32.reduceToInt, Int.bmod_add_bmod, Int.bmod_sub_bmod, Int.add_bmod_bmod, Int.sub_bmod_bmod, Int.bmod_mul_bmod, Int.mul_bmod_bmod]; exact i32_bm (by omega) (by omega)) (by omega) (by omega) | exact i32_in (by decide) (by decide)) (by (try simp (disch := omega) only [tS_1, tS_2, tA_1, tA_2, tF_1, tF_2, xl_0, xl_1, xl_2, Nat.reduceEqDiff, ↓reduceIte, nI_add, nI_1, nm_2, nm_3, nm_4, nm_6, nm_7, nm_8, nm_12, nm_16, nm_24, nm_40, nm_180, nm_300, nm_10210, na_0, na_2, na_3, na_4, na_5, na_6, na_7, na_8, nm_p, nm_m, nI_clamp, f2]); exact rfl) dX8_unlearn_44 ?_
      refine x_iconst (v := 1) hκ dX8_unlearn_45 (by decide) ?_
      refine x_isubN hκ (by (try simp (disch := omega) only [tS_1, tS_2, tA_1, tA_2, tF_1, tF_2, xl_0, xl_1, xl_2, Nat.reduceEqDiff, ↓reduceIte, nI_add, nI_1, nm_2, nm_3, nm_4, nm_6, nm_7, nm_8, nm_12, nm_16, nm_24, nm_40, nm_180, nm_300, nm_10210, na_0, na_2, na_3, na_4, na_5, na_6, na_7, na_8, nm_p, nm_m, nI_clamp, f2]); exact rfl) dX8_unlearn_46 ?_
      have f8 : (σ.2 43 (ca b t i) - 1).toInt = (σ.2 43 (ca b t i)).toInt - 1 := i32_sub (by simp only [Int32.reduceToInt]; omega) (by simp only [Int32.reduceToInt]; omega)
      refine x_istore hκ dX8_unlearn_47 (by rw [hL]; decide) rfl ?_
      refine x_aload_n hκ dX8_unlearn_49 rfl ?_
      refine t_getA hκ fl8_43 (by decide) (by decide) rfl dX8_unlearn_50 ?_
      refine x_iload hκ dX8_unlearn_53 rfl ?_
      refine x_iconst (v := 0) hκ dX8_unlearn_55 (by decide) ?_
      refine t_iast (n := 3600) hκ hθ (by decide) rfl rfl (by first | ((with_reducible refine vp_in_nI ?_ ?_) <;> omega) | exact i32_in (by omega) (by omega) | exact i32_in' (by simp only [Int32.toInt_add, Int32.toInt_mul, Int32.toInt_sub, Int32.reduceToInt, Int.bmod_add_bmod, Int.bmod_sub_bmod, Int.add_bmod_bmod, Int.sub_bmod_bmod, Int.bmod_mul_bmod, Int.mul_bmod_bmod]; exact i32_bm (by omega) (by omega)) (by omega) (by omega) | exact i32_in (by decide) (by decide)) (by (try simp (disch := omega) only [tS_1, tS_2, tA_1, tA_2, tF_1, tF_2, xl_0, xl_1, xl_2, Nat.reduceEqDiff, ↓reduceIte, nI_add, nI_1, nm_2, nm_3, nm_4, nm_6, nm_7, nm_8, nm_12, nm_16, nm_24, nm_40, nm_180, nm_300, nm_10210, na_0, na_2, na_3, na_4, na_5, na_6, na_7, na_8, nm_p, nm_m, nI_clamp, f2]); exact rfl) dX8_unlearn_56 ?_
      refine x_aload_n hκ dX8_unlearn_57 rfl ?_
      refine x_aload_n hκ dX8_unlearn_58 rfl ?_
      refine t_getA hκ fl8_41 (by decide) (by decide) rfl dX8_unlearn_59 ?_
      refine x_iload hκ dX8_unlearn_62 rfl ?_
      refine t_iald (n := 3600) hκ hθ (by decide) rfl rfl (by first | ((with_reducible refine vp_in_nI ?_ ?_) <;> omega) | exact i32_in (by omega) (by omega) | exact i32_in' (by simp only [Int32.toInt_add, Int32.toInt_mul, Int32.toInt_sub, Int32.reduceToInt, Int.bmod_add_bmod, Int.bmod_sub_bmod, Int.add_bmod_bmod, Int.sub_bmod_bmod, Int.bmod_mul_bmod, Int.mul_bmod_bmod]; exact i32_bm (by omega) (by omega)) (by omega) (by omega) | exact i32_in (by decide) (by decide)) (by (try simp (disch := omega) only [tS_1, tS_2, tA_1, tA_2, tF_1, tF_2, xl_0, xl_1, xl_2, Nat.reduceEqDiff, ↓reduceIte, nI_add, nI_1, nm_2, nm_3, nm_4, nm_6, nm_7, nm_8, nm_12, nm_16, nm_24, nm_40, nm_180, nm_300, nm_10210, na_0, na_2, na_3, na_4, na_5, na_6, na_7, na_8, nm_p, nm_m, nI_clamp, f2]); exact rfl) dX8_unlearn_64 ?_
      refine x_iload hκ dX8_unlearn_65 rfl ?_
      refine x_iconst (v := (-1)) hκ dX8_unlearn_67 (by decide) ?_
      refine t_callv hκ (mX8_learns hθ f6 (by rw [f8]; omega)) (by omega) (by decide) wX8_319 aX8_learns rfl (Nat.le_of_ble_eq_true rfl) dX8_unlearn_68 (fun σ68 h68 => ?_)
      subst h68
      refine x_aload_n hκ dX8_unlearn_71 rfl ?_
      refine t_getA hκ fl8_57 (by decide) (by decide) rfl dX8_unlearn_72 ?_
      refine x_iload hκ dX8_unlearn_75 rfl ?_
      refine t_iald (n := 2) hκ hθ (by decide) rfl rfl (i32_in (by rw [f8]; omega) (by rw [f8]; omega)) (by (try simp (disch := omega) only [tS_1, tS_2, tA_1, tA_2, tF_1, tF_2, xl_0, xl_1, xl_2, Nat.reduceEqDiff, ↓reduceIte, nI_add, nI_1, nm_2, nm_3, nm_4, nm_6, nm_7, nm_8, nm_12, nm_16, nm_24, nm_40, nm_180, nm_300, nm_10210, na_0, na_2, na_3, na_4, na_5, na_6, na_7, na_8, nm_p, nm_m, nI_clamp, f2]); exact rfl) dX8_unlearn_77 ?_
      refine t_reti hκ hr rfl dX8_unlearn_78 ?_
      rw [if_pos i7, if_neg c32]
      simp only [lrn, tF_2, tA_2, Nat.reduceEqDiff, ↓reduceIte, upd]
    · -- X8_unlearn 32F
      have i32 := c32
      simp (disch := omega) only [i32_lt, i32_le, i32_eq, Int32.reduceToInt, nI_toInt] at i32
      refine x_bipush (v := (-2)) hκ dX8_unlearn_35 (by decide) ?_
      refine t_reti hκ hr rfl dX8_unlearn_37 ?_
      rw [if_pos i7, if_pos c32]
  · -- X8_unlearn 7F
    have i7 := h4.f c7
    try simp only [Int32.reduceToInt] at i7
    refine x_iconst (v := (-1)) hκ dX8_unlearn_10 (by decide) ?_
    refine t_reti hκ hr rfl dX8_unlearn_11 ?_
    rw [if_neg i7]
theorem mX8_letter {E : gE} {θ : TA} (hθ : tOk θ) {σ : TS} (hl : 0 ≤ (σ.1 25).toInt ∧ (σ.1 25).toInt ≤ 209) {l k : Int32} : TMi E θ σ yX8_letter cX8_letter 3 .int 2 [.int l, .int k] (fun r σ' => (if (0 ≤ l.toInt ∧ l.toInt < (σ.1 25).toInt) ∧ 0 ≤ k.toInt ∧ k.toInt ≤ 8 then (if k.toInt = 8 then Tz (jk (σ.2 57) (σ.2 58) (σ.2 28 (Int32.toNatClampNeg l))) r else r = σ.2 (26 + Int32.toNatClampNeg k) (Int32.toNatClampNeg l)) else r = -101) ∧ σ' = σ) := by
  refine TMi.of (by decide) (Nat.le_of_ble_eq_true rfl) ?_
  rintro κ rfl hL hκ hr
  have e0 : (σ.1 25 - 1).toInt = (σ.1 25).toInt - 1 := i32_sub (by simp only [Int32.reduceToInt]; omega) (by simp only [Int32.reduceToInt]; omega)
  refine x_iload_n hκ dX8_letter_0 rfl ?_
  refine x_iconst (v := 0) hκ dX8_letter_1 (by decide) ?_
  refine x_aload_n hκ dX8_letter_2 rfl ?_
  refine t_get hκ fl8_25 (by decide) (by decide) rfl (by (try simp (disch := omega) only [tS_1, tS_2, tA_1, tA_2, tF_1, tF_2, xl_0, xl_1, xl_2, Nat.reduceEqDiff, ↓reduceIte, nI_add, nI_1, nm_2, nm_3, nm_4, nm_6, nm_7, nm_8, nm_12, nm_16, nm_24, nm_40, nm_180, nm_300, nm_10210, na_0, na_2, na_3, na_4, na_5, na_6, na_7, na_8, nm_p, nm_m, nI_clamp]); exact rfl) dX8_letter_3 ?_
  refine x_iconst (v := 1) hκ dX8_letter_6 (by decide) ?_
  refine x_isubN hκ (by (try simp (disch := omega) only [tS_1, tS_2, tA_1, tA_2, tF_1, tF_2, xl_0, xl_1, xl_2, Nat.reduceEqDiff, ↓reduceIte, nI_add, nI_1, nm_2, nm_3, nm_4, nm_6, nm_7, nm_8, nm_12, nm_16, nm_24, nm_40, nm_180, nm_300, nm_10210, na_0, na_2, na_3, na_4, na_5, na_6, na_7, na_8, nm_p, nm_m, nI_clamp]); exact rfl) dX8_letter_7 ?_
  refine x_callSi hκ mX8_in (by omega) (by decide) wX8_122 aX8_in rfl (Nat.le_of_ble_eq_true rfl) dX8_letter_8 (fun r8 h8 => ?_)
  rw [e0] at h8
  refine x_if_eq (tgt := 24) hκ dX8_letter_11 (by decide) (fun c11 => ?_) (fun c11 => ?_)
  · -- X8_letter 11T
    have i11 := h8.f c11
    try simp only [Int32.reduceToInt] at i11
    refine x_bipush (v := (-101)) hκ dX8_letter_24 (by decide) ?_
    refine t_reti hκ hr rfl dX8_letter_26 ?_
    rw [if_neg (by omega)]
    exact ⟨rfl, rfl⟩
  · -- X8_letter 11F
    have i11 := h8.t c11
    try simp only [Int32.reduceToInt] at i11
    refine x_iload_n hκ dX8_letter_14 rfl ?_
    refine x_iconst (v := 0) hκ dX8_letter_15 (by decide) ?_
    refine x_bipush (v := 8) hκ dX8_letter_16 (by decide) ?_
    refine x_callSi hκ mX8_in (by omega) (by decide) wX8_122 aX8_in rfl (Nat.le_of_ble_eq_true rfl) dX8_letter_18 (fun r18 h18 => ?_)
    refine x_if_ne (tgt := 27) hκ dX8_letter_21 (by decide) (fun c21 => ?_) (fun c21 => ?_)
    · -- X8_letter 21T
      have i21 := h18.t c21
      try simp only [Int32.reduceToInt] at i21
      refine x_iload_n hκ dX8_letter_27 rfl ?_
      refine x_topi (fun s28 es28 => ?_)
      by_cases hs28 : s28.toInt < 0 ∨ 7 < s28.toInt
      · -- X8_letter 28D
        refine x_tableOut (tgt := 132) hκ dX8_letter_28 hs28 (by decide) ?_
        refine x_aload_n hκ dX8_letter_132 rfl ?_
        refine x_iload_n hκ dX8_letter_133 rfl ?_
        refine t_callR hκ (mX8_isJunk hθ (by omega)) (by omega) (by decide) wX8_212 aX8_isJunk rfl (Nat.le_of_ble_eq_true rfl) dX8_letter_134 (fun r134 h134 => ?_)
        refine x_if_eq (tgt := 144) hκ dX8_letter_137 (by decide) (fun c137 => ?_) (fun c137 => ?_)
        · -- X8_letter 137T
          have i137 := h134.f c137
          try simp only [Int32.reduceToInt] at i137
          refine x_iconst (v := 0) hκ dX8_letter_144 (by decide) ?_
          refine t_reti hκ hr rfl dX8_letter_145 ?_
          subst es28
          rw [if_pos (by omega), if_pos (by omega)]
          exact ⟨Tz0 i137, rfl⟩
        · -- X8_letter 137F
          have i137 := h134.t c137
          try simp only [Int32.reduceToInt] at i137
          refine x_iconst (v := 1) hκ dX8_letter_140 (by decide) ?_
          refine x_goto (tgt := 145) hκ dX8_letter_141 (by decide) ?_
          refine t_reti hκ hr rfl dX8_letter_145 ?_
          subst es28
          rw [if_pos (by omega), if_pos (by omega)]
          exact ⟨Tz1 i137, rfl⟩
      · rcases (show s28.toInt = 0 ∨ s28.toInt = 1 ∨ s28.toInt = 2 ∨ s28.toInt = 3 ∨ s28.toInt = 4 ∨ s28.toInt = 5 ∨ s28.toInt = 6 ∨ s28.toInt = 7 by omega) with e28 | e28 | e28 | e28 | e28 | e28 | e28 | e28
        · -- X8_letter 28C0
          refine x_tableIn (off := 48) (tgt := 76) hκ dX8_letter_28 (by rw [e28]; decide) (by rw [e28]; decide) (by rw [e28]; rfl) (by decide) ?_
          refine x_aload_n hκ dX8_letter_76 rfl ?_
          refine t_getA hκ fl8_26 (by decide) (by decide) rfl dX8_letter_77 ?_
          refine x_iload_n hκ dX8_letter_80 rfl ?_
          refine t_iald (n := 210) hκ hθ (by decide) rfl rfl (by first | ((with_reducible refine vp_in_nI ?_ ?_) <;> omega) | exact i32_in (by omega) (by omega) | exact i32_in' (by simp only [Int32.toInt_add, Int32.toInt_mul, Int32.toInt_sub, Int32.reduceToInt, Int.bmod_add_bmod, Int.bmod_sub_bmod, Int.add_bmod_bmod, Int.sub_bmod_bmod, Int.bmod_mul_bmod, Int.mul_bmod_bmod]; exact i32_bm (by omega) (by omega)) (by omega) (by omega) | exact i32_in (by decide) (by decide)) (by (try simp (disch := omega) only [tS_1, tS_2, tA_1, tA_2, tF_1, tF_2, xl_0, xl_1, xl_2, Nat.reduceEqDiff, ↓reduceIte, nI_add, nI_1, nm_2, nm_3, nm_4, nm_6, nm_7, nm_8, nm_12, nm_16, nm_24, nm_40, nm_180, nm_300, nm_10210, na_0, na_2, na_3, na_4, na_5, na_6, na_7, na_8, nm_p, nm_m, nI_clamp]); exact rfl) dX8_letter_81 ?_
          refine t_reti hκ hr rfl dX8_letter_82 ?_
          subst es28
          rw [if_pos (by omega), if_neg (by omega), show Int32.toNatClampNeg s28 = _ from i32_cl s28, e28]
          exact ⟨rfl, rfl⟩
        · -- X8_letter 28C1
          refine x_tableIn (off := 55) (tgt := 83) hκ dX8_letter_28 (by rw [e28]; decide) (by rw [e28]; decide) (by rw [e28]; rfl) (by decide) ?_
          refine x_aload_n hκ dX8_letter_83 rfl ?_
          refine t_getA hκ fl8_27 (by decide) (by decide) rfl dX8_letter_84 ?_
          refine x_iload_n hκ dX8_letter_87 rfl ?_
          refine t_iald (n := 210) hκ hθ (by decide) rfl rfl (by first | ((with_reducible refine vp_in_nI ?_ ?_) <;> omega) | exact i32_in (by omega) (by omega) | exact i32_in' (by simp only [Int32.toInt_add, Int32.toInt_mul, Int32.toInt_sub, Int32.reduceToInt, Int.bmod_add_bmod, Int.bmod_sub_bmod, Int.add_bmod_bmod, Int.sub_bmod_bmod, Int.bmod_mul_bmod, Int.mul_bmod_bmod]; exact i32_bm (by omega) (by omega)) (by omega) (by omega) | exact i32_in (by decide) (by decide)) (by (try simp (disch := omega) only [tS_1, tS_2, tA_1, tA_2, tF_1, tF_2, xl_0, xl_1, xl_2, Nat.reduceEqDiff, ↓reduceIte, nI_add, nI_1, nm_2, nm_3, nm_4, nm_6, nm_7, nm_8, nm_12, nm_16, nm_24, nm_40, nm_180, nm_300, nm_10210, na_0, na_2, na_3, na_4, na_5, na_6, na_7, na_8, nm_p, nm_m, nI_clamp]); exact rfl) dX8_letter_88 ?_
          refine t_reti hκ hr rfl dX8_letter_89 ?_
          subst es28
          rw [if_pos (by omega), if_neg (by omega), show Int32.toNatClampNeg s28 = _ from i32_cl s28, e28]
          exact ⟨rfl, rfl⟩
        · -- X8_letter 28C2
          refine x_tableIn (off := 62) (tgt := 90) hκ dX8_letter_28 (by rw [e28]; decide) (by rw [e28]; decide) (by rw [e28]; rfl) (by decide) ?_
          refine x_aload_n hκ dX8_letter_90 rfl ?_
          refine t_getA hκ fl8_28 (by decide) (by decide) rfl dX8_letter_91 ?_
          refine x_iload_n hκ dX8_letter_94 rfl ?_
          refine t_iald (n := 210) hκ hθ (by decide) rfl rfl (by first | ((with_reducible refine vp_in_nI ?_ ?_) <;> omega) | exact i32_in (by omega) (by omega) | exact i32_in' (by simp only [Int32.toInt_add, Int32.toInt_mul, Int32.toInt_sub, Int32.reduceToInt, Int.bmod_add_bmod, Int.bmod_sub_bmod, Int.add_bmod_bmod, Int.sub_bmod_bmod, Int.bmod_mul_bmod, Int.mul_bmod_bmod]; exact i32_bm (by omega) (by omega)) (by omega) (by omega) | exact i32_in (by decide) (by decide)) (by (try simp (disch := omega) only [tS_1, tS_2, tA_1, tA_2, tF_1, tF_2, xl_0, xl_1, xl_2, Nat.reduceEqDiff, ↓reduceIte, nI_add, nI_1, nm_2, nm_3, nm_4, nm_6, nm_7, nm_8, nm_12, nm_16, nm_24, nm_40, nm_180, nm_300, nm_10210, na_0, na_2, na_3, na_4, na_5, na_6, na_7, na_8, nm_p, nm_m, nI_clamp]); exact rfl) dX8_letter_95 ?_
          refine t_reti hκ hr rfl dX8_letter_96 ?_
          subst es28
          rw [if_pos (by omega), if_neg (by omega), show Int32.toNatClampNeg s28 = _ from i32_cl s28, e28]
          exact ⟨rfl, rfl⟩
        · -- X8_letter 28C3
          refine x_tableIn (off := 69) (tgt := 97) hκ dX8_letter_28 (by rw [e28]; decide) (by rw [e28]; decide) (by rw [e28]; rfl) (by decide) ?_
          refine x_aload_n hκ dX8_letter_97 rfl ?_
          refine t_getA hκ fl8_29 (by decide) (by decide) rfl dX8_letter_98 ?_
          refine x_iload_n hκ dX8_letter_101 rfl ?_
          refine t_iald (n := 210) hκ hθ (by decide) rfl rfl (by first | ((with_reducible refine vp_in_nI ?_ ?_) <;> omega) | exact i32_in (by omega) (by omega) | exact i32_in' (by simp only [Int32.toInt_add, Int32.toInt_mul, Int32.toInt_sub, Int32.reduceToInt, Int.bmod_add_bmod, Int.bmod_sub_bmod, Int.add_bmod_bmod, Int.sub_bmod_bmod, Int.bmod_mul_bmod, Int.mul_bmod_bmod]; exact i32_bm (by omega) (by omega)) (by omega) (by omega) | exact i32_in (by decide) (by decide)) (by (try simp (disch := omega) only [tS_1, tS_2, tA_1, tA_2, tF_1, tF_2, xl_0, xl_1, xl_2, Nat.reduceEqDiff, ↓reduceIte, nI_add, nI_1, nm_2, nm_3, nm_4, nm_6, nm_7, nm_8, nm_12, nm_16, nm_24, nm_40, nm_180, nm_300, nm_10210, na_0, na_2, na_3, na_4, na_5, na_6, na_7, na_8, nm_p, nm_m, nI_clamp]); exact rfl) dX8_letter_102 ?_
          refine t_reti hκ hr rfl dX8_letter_103 ?_
          subst es28
          rw [if_pos (by omega), if_neg (by omega), show Int32.toNatClampNeg s28 = _ from i32_cl s28, e28]
          exact ⟨rfl, rfl⟩
        · -- X8_letter 28C4
          refine x_tableIn (off := 76) (tgt := 104) hκ dX8_letter_28 (by rw [e28]; decide) (by rw [e28]; decide) (by rw [e28]; rfl) (by decide) ?_
          refine x_aload_n hκ dX8_letter_104 rfl ?_
          refine t_getA hκ fl8_30 (by decide) (by decide) rfl dX8_letter_105 ?_
          refine x_iload_n hκ dX8_letter_108 rfl ?_
          refine t_iald (n := 210) hκ hθ (by decide) rfl rfl (by first | ((with_reducible refine vp_in_nI ?_ ?_) <;> omega) | exact i32_in (by omega) (by omega) | exact i32_in' (by simp only [Int32.toInt_add, Int32.toInt_mul, Int32.toInt_sub, Int32.reduceToInt, Int.bmod_add_bmod, Int.bmod_sub_bmod, Int.add_bmod_bmod, Int.sub_bmod_bmod, Int.bmod_mul_bmod, Int.mul_bmod_bmod]; exact i32_bm (by omega) (by omega)) (by omega) (by omega) | exact i32_in (by decide) (by decide)) (by (try simp (disch := omega) only [tS_1, tS_2, tA_1, tA_2, tF_1, tF_2, xl_0, xl_1, xl_2, Nat.reduceEqDiff, ↓reduceIte, nI_add, nI_1, nm_2, nm_3, nm_4, nm_6, nm_7, nm_8, nm_12, nm_16, nm_24, nm_40, nm_180, nm_300, nm_10210, na_0, na_2, na_3, na_4, na_5, na_6, na_7, na_8, nm_p, nm_m, nI_clamp]); exact rfl) dX8_letter_109 ?_
          refine t_reti hκ hr rfl dX8_letter_110 ?_
          subst es28
          rw [if_pos (by omega), if_neg (by omega), show Int32.toNatClampNeg s28 = _ from i32_cl s28, e28]
          exact ⟨rfl, rfl⟩
        · -- X8_letter 28C5
          refine x_tableIn (off := 83) (tgt := 111) hκ dX8_letter_28 (by rw [e28]; decide) (by rw [e28]; decide) (by rw [e28]; rfl) (by decide) ?_
          refine x_aload_n hκ dX8_letter_111 rfl ?_
          refine t_getA hκ fl8_31 (by decide) (by decide) rfl dX8_letter_112 ?_
          refine x_iload_n hκ dX8_letter_115 rfl ?_
          refine t_iald (n := 210) hκ hθ (by decide) rfl rfl (by first | ((with_reducible refine vp_in_nI ?_ ?_) <;> omega) | exact i32_in (by omega) (by omega) | exact i32_in' (by simp only [Int32.toInt_add, Int32.toInt_mul, Int32.toInt_sub, Int32.reduceToInt, Int.bmod_add_bmod, Int.bmod_sub_bmod, Int.add_bmod_bmod, Int.sub_bmod_bmod, Int.bmod_mul_bmod, Int.mul_bmod_bmod]; exact i32_bm (by omega) (by omega)) (by omega) (by omega) | exact i32_in (by decide) (by decide)) (by (try simp (disch := omega) only [tS_1, tS_2, tA_1, tA_2, tF_1, tF_2, xl_0, xl_1, xl_2, Nat.reduceEqDiff, ↓reduceIte, nI_add, nI_1, nm_2, nm_3, nm_4, nm_6, nm_7, nm_8, nm_12, nm_16, nm_24, nm_40, nm_180, nm_300, nm_10210, na_0, na_2, na_3, na_4, na_5, na_6, na_7, na_8, nm_p, nm_m, nI_clamp]); exact rfl) dX8_letter_116 ?_
          refine t_reti hκ hr rfl dX8_letter_117 ?_
          subst es28
          rw [if_pos (by omega), if_neg (by omega), show Int32.toNatClampNeg s28 = _ from i32_cl s28, e28]
          exact ⟨rfl, rfl⟩
        · -- X8_letter 28C6
          refine x_tableIn (off := 90) (tgt := 118) hκ dX8_letter_28 (by rw [e28]; decide) (by rw [e28]; decide) (by rw [e28]; rfl) (by decide) ?_
          refine x_aload_n hκ dX8_letter_118 rfl ?_
          refine t_getA hκ fl8_32 (by decide) (by decide) rfl dX8_letter_119 ?_
          refine x_iload_n hκ dX8_letter_122 rfl ?_
          refine t_iald (n := 210) hκ hθ (by decide) rfl rfl (by first | ((with_reducible refine vp_in_nI ?_ ?_) <;> omega) | exact i32_in (by omega) (by omega) | exact i32_in' (by simp only [Int32.toInt_add, Int32.toInt_mul, Int32.toInt_sub, Int32.reduceToInt, Int.bmod_add_bmod, Int.bmod_sub_bmod, Int.add_bmod_bmod, Int.sub_bmod_bmod, Int.bmod_mul_bmod, Int.mul_bmod_bmod]; exact i32_bm (by omega) (by omega)) (by omega) (by omega) | exact i32_in (by decide) (by decide)) (by (try simp (disch := omega) only [tS_1, tS_2, tA_1, tA_2, tF_1, tF_2, xl_0, xl_1, xl_2, Nat.reduceEqDiff, ↓reduceIte, nI_add, nI_1, nm_2, nm_3, nm_4, nm_6, nm_7, nm_8, nm_12, nm_16, nm_24, nm_40, nm_180, nm_300, nm_10210, na_0, na_2, na_3, na_4, na_5, na_6, na_7, na_8, nm_p, nm_m, nI_clamp]); exact rfl) dX8_letter_123 ?_
          refine t_reti hκ hr rfl dX8_letter_124 ?_
          subst es28
          rw [if_pos (by omega), if_neg (by omega), show Int32.toNatClampNeg s28 = _ from i32_cl s28, e28]
          exact ⟨rfl, rfl⟩
        · -- X8_letter 28C7
          refine x_tableIn (off := 97) (tgt := 125) hκ dX8_letter_28 (by rw [e28]; decide) (by rw [e28]; decide) (by rw [e28]; rfl) (by decide) ?_
          refine x_aload_n hκ dX8_letter_125 rfl ?_
          refine t_getA hκ fl8_33 (by decide) (by decide) rfl dX8_letter_126 ?_
          refine x_iload_n hκ dX8_letter_129 rfl ?_
          refine t_iald (n := 210) hκ hθ (by decide) rfl rfl (by first | ((with_reducible refine vp_in_nI ?_ ?_) <;> omega) | exact i32_in (by omega) (by omega) | exact i32_in' (by simp only [Int32.toInt_add, Int32.toInt_mul, Int32.toInt_sub, Int32.reduceToInt, Int.bmod_add_bmod, Int.bmod_sub_bmod, Int.add_bmod_bmod, Int.sub_bmod_bmod, Int.bmod_mul_bmod, Int.mul_bmod_bmod]; exact i32_bm (by omega) (by omega)) (by omega) (by omega) | exact i32_in (by decide) (by decide)) (by (try simp (disch := omega) only [tS_1, tS_2, tA_1, tA_2, tF_1, tF_2, xl_0, xl_1, xl_2, Nat.reduceEqDiff, ↓reduceIte, nI_add, nI_1, nm_2, nm_3, nm_4, nm_6, nm_7, nm_8, nm_12, nm_16, nm_24, nm_40, nm_180, nm_300, nm_10210, na_0, na_2, na_3, na_4, na_5, na_6, na_7, na_8, nm_p, nm_m, nI_clamp]); exact rfl) dX8_letter_130 ?_
          refine t_reti hκ hr rfl dX8_letter_131 ?_
          subst es28
          rw [if_pos (by omega), if_neg (by omega), show Int32.toNatClampNeg s28 = _ from i32_cl s28, e28]
          exact ⟨rfl, rfl⟩
    · -- X8_letter 21F
      have i21 := h18.f c21
      try simp only [Int32.reduceToInt] at i21
      refine x_bipush (v := (-101)) hκ dX8_letter_24 (by decide) ?_
      refine t_reti hκ hr rfl dX8_letter_26 ?_
      rw [if_neg (by omega)]
      exact ⟨rfl, rfl⟩
/-- a copy is put at a tray's end -/
def putC (σ : TS) (t : Nat) (l m h : Int32) : TS := tA (tA (tA (tA σ 41 (300 * t + Int32.toNatClampNeg (σ.2 40 t)) l) 42 (300 * t + Int32.toNatClampNeg (σ.2 40 t)) m) 43 (300 * t + Int32.toNatClampNeg (σ.2 40 t)) h) 40 t (σ.2 40 t + 1)
theorem ix_300t {σ : TS} {t : Int32} (ht : 0 ≤ t.toInt ∧ t.toInt ≤ 11) (hT : 0 ≤ (σ.2 40 (Int32.toNatClampNeg t)).toInt ∧ (σ.2 40 (Int32.toNatClampNeg t)).toInt ≤ 299) : (300 * t + σ.2 40 (Int32.toNatClampNeg t)).toInt = 300 * t.toInt + (σ.2 40 (Int32.toNatClampNeg t)).toInt ∧ (300 * t + σ.2 40 (Int32.toNatClampNeg t)).toNatClampNeg = 300 * Int32.toNatClampNeg t + Int32.toNatClampNeg (σ.2 40 (Int32.toNatClampNeg t)) := by
  have h5 : (300 * t + σ.2 40 (Int32.toNatClampNeg t)).toInt = 300 * t.toInt + (σ.2 40 (Int32.toNatClampNeg t)).toInt := by
    simp only [Int32.toInt_add, Int32.toInt_mul, Int32.reduceToInt, Int.bmod_add_bmod]
    exact i32_bm (by omega) (by omega)
  refine ⟨h5, ?_⟩
  rw [i32_cl, h5]
  show _ = 300 * t.toInt.toNat + (σ.2 40 (Int32.toNatClampNeg t)).toInt.toNat
  omega
theorem mX8_put_2 {E : gE} {θ : TA} (hθ : tOk θ) {σ : TS} {t l m h : Int32} (ht : 0 ≤ t.toInt ∧ t.toInt ≤ 11) (hT : 0 ≤ (σ.2 40 (Int32.toNatClampNeg t)).toInt ∧ (σ.2 40 (Int32.toNatClampNeg t)).toInt ≤ 299) (hm : m = 0 ∨ m = 1) : TMv E θ σ yX8_put_2 cX8_put_2 6 0 [.int t, .int l, .int m, .int h] (fun σ' => σ' = putC σ (Int32.toNatClampNeg t) l m h) := by
  refine TMv.of (by decide) (Nat.le_of_ble_eq_true rfl) ?_
  rintro κ rfl hL hκ hr
  obtain ⟨f1, f2⟩ := ix_300t ht hT
  refine x_sipush (v := 300) hκ dX8_put_2_0 (by decide) ?_
  refine x_iload_n hκ dX8_put_2_3 rfl ?_
  refine x_imulN hκ (by (try simp (disch := omega) only [tS_1, tS_2, tA_1, tA_2, tF_1, tF_2, xl_0, xl_1, xl_2, Nat.reduceEqDiff, ↓reduceIte, nI_add, nI_1, nm_2, nm_3, nm_4, nm_6, nm_7, nm_8, nm_12, nm_16, nm_24, nm_40, nm_180, nm_300, nm_10210, na_0, na_2, na_3, na_4, na_5, na_6, na_7, na_8, nm_p, nm_m, nI_clamp, f2]); exact rfl) dX8_put_2_4 ?_
  refine x_aload_n hκ dX8_put_2_5 rfl ?_
  refine t_getA hκ fl8_40 (by decide) (by decide) rfl dX8_put_2_6 ?_
  refine x_iload_n hκ dX8_put_2_9 rfl ?_
  refine t_iald (n := 12) hκ hθ (by decide) rfl rfl (by first | ((with_reducible refine vp_in_nI ?_ ?_) <;> omega) | exact i32_in (by omega) (by omega) | exact i32_in' (by simp only [Int32.toInt_add, Int32.toInt_mul, Int32.toInt_sub, Int32.reduceToInt, Int.bmod_add_bmod, Int.bmod_sub_bmod, Int.add_bmod_bmod, Int.sub_bmod_bmod, Int.bmod_mul_bmod, Int.mul_bmod_bmod]; exact i32_bm (by omega) (by omega)) (by omega) (by omega) | exact i32_in (by decide) (by decide)) (by (try simp (disch := omega) only [tS_1, tS_2, tA_1, tA_2, tF_1, tF_2, xl_0, xl_1, xl_2, Nat.reduceEqDiff, ↓reduceIte, nI_add, nI_1, nm_2, nm_3, nm_4, nm_6, nm_7, nm_8, nm_12, nm_16, nm_24, nm_40, nm_180, nm_300, nm_10210, na_0, na_2, na_3, na_4, na_5, na_6, na_7, na_8, nm_p, nm_m, nI_clamp, f2]); exact rfl) dX8_put_2_10 ?_
  refine x_iaddN hκ (by (try simp (disch := omega) only [tS_1, tS_2, tA_1, tA_2, tF_1, tF_2, xl_0, xl_1, xl_2, Nat.reduceEqDiff, ↓reduceIte, nI_add, nI_1, nm_2, nm_3, nm_4, nm_6, nm_7, nm_8, nm_12, nm_16, nm_24, nm_40, nm_180, nm_300, nm_10210, na_0, na_2, na_3, na_4, na_5, na_6, na_7, na_8, nm_p, nm_m, nI_clamp, f2]); exact rfl) dX8_put_2_11 ?_
  refine x_istore hκ dX8_put_2_12 (by rw [hL]; decide) rfl ?_
  refine x_aload_n hκ dX8_put_2_14 rfl ?_
  refine t_getA hκ fl8_41 (by decide) (by decide) rfl dX8_put_2_15 ?_
  refine x_iload hκ dX8_put_2_18 rfl ?_
  refine x_iload_n hκ dX8_put_2_20 rfl ?_
  refine t_iast (n := 3600) hκ hθ (by decide) rfl rfl (i32_in (by rw [f1]; omega) (by rw [f1]; omega)) (by (try simp (disch := omega) only [tS_1, tS_2, tA_1, tA_2, tF_1, tF_2, xl_0, xl_1, xl_2, Nat.reduceEqDiff, ↓reduceIte, nI_add, nI_1, nm_2, nm_3, nm_4, nm_6, nm_7, nm_8, nm_12, nm_16, nm_24, nm_40, nm_180, nm_300, nm_10210, na_0, na_2, na_3, na_4, na_5, na_6, na_7, na_8, nm_p, nm_m, nI_clamp, f2]); exact rfl) dX8_put_2_21 ?_
  refine x_aload_n hκ dX8_put_2_22 rfl ?_
  refine t_getA hκ fl8_42 (by decide) (by decide) rfl dX8_put_2_23 ?_
  refine x_iload hκ dX8_put_2_26 rfl ?_
  refine x_iload_n hκ dX8_put_2_28 rfl ?_
  refine t_zast (n := 3600) hκ hθ (by decide) rfl rfl (i32_in (by rw [f1]; omega) (by rw [f1]; omega)) (by (try simp (disch := omega) only [tS_1, tS_2, tA_1, tA_2, tF_1, tF_2, xl_0, xl_1, xl_2, Nat.reduceEqDiff, ↓reduceIte, nI_add, nI_1, nm_2, nm_3, nm_4, nm_6, nm_7, nm_8, nm_12, nm_16, nm_24, nm_40, nm_180, nm_300, nm_10210, na_0, na_2, na_3, na_4, na_5, na_6, na_7, na_8, nm_p, nm_m, nI_clamp, f2]); exact rfl) hm dX8_put_2_29 ?_
  refine x_aload_n hκ dX8_put_2_30 rfl ?_
  refine t_getA hκ fl8_43 (by decide) (by decide) rfl dX8_put_2_31 ?_
  refine x_iload hκ dX8_put_2_34 rfl ?_
  refine x_iload hκ dX8_put_2_36 rfl ?_
  refine t_iast (n := 3600) hκ hθ (by decide) rfl rfl (i32_in (by rw [f1]; omega) (by rw [f1]; omega)) (by (try simp (disch := omega) only [tS_1, tS_2, tA_1, tA_2, tF_1, tF_2, xl_0, xl_1, xl_2, Nat.reduceEqDiff, ↓reduceIte, nI_add, nI_1, nm_2, nm_3, nm_4, nm_6, nm_7, nm_8, nm_12, nm_16, nm_24, nm_40, nm_180, nm_300, nm_10210, na_0, na_2, na_3, na_4, na_5, na_6, na_7, na_8, nm_p, nm_m, nI_clamp, f2]); exact rfl) dX8_put_2_38 ?_
  refine x_aload_n hκ dX8_put_2_39 rfl ?_
  refine t_getA hκ fl8_40 (by decide) (by decide) rfl dX8_put_2_40 ?_
  refine x_iload_n hκ dX8_put_2_43 rfl ?_
  refine x_dup2 hκ dX8_put_2_44 rfl rfl ?_
  refine t_iald (n := 12) hκ hθ (by decide) rfl rfl (by first | ((with_reducible refine vp_in_nI ?_ ?_) <;> omega) | exact i32_in (by omega) (by omega) | exact i32_in' (by simp only [Int32.toInt_add, Int32.toInt_mul, Int32.toInt_sub, Int32.reduceToInt, Int.bmod_add_bmod, Int.bmod_sub_bmod, Int.add_bmod_bmod, Int.sub_bmod_bmod, Int.bmod_mul_bmod, Int.mul_bmod_bmod]; exact i32_bm (by omega) (by omega)) (by omega) (by omega) | exact i32_in (by decide) (by decide)) (by (try simp (disch := omega) only [tS_1, tS_2, tA_1, tA_2, tF_1, tF_2, xl_0, xl_1, xl_2, Nat.reduceEqDiff, ↓reduceIte, nI_add, nI_1, nm_2, nm_3, nm_4, nm_6, nm_7, nm_8, nm_12, nm_16, nm_24, nm_40, nm_180, nm_300, nm_10210, na_0, na_2, na_3, na_4, na_5, na_6, na_7, na_8, nm_p, nm_m, nI_clamp, f2]); exact rfl) dX8_put_2_45 ?_
  refine x_iconst (v := 1) hκ dX8_put_2_46 (by decide) ?_
  refine x_iaddN hκ (by (try simp (disch := omega) only [tS_1, tS_2, tA_1, tA_2, tF_1, tF_2, xl_0, xl_1, xl_2, Nat.reduceEqDiff, ↓reduceIte, nI_add, nI_1, nm_2, nm_3, nm_4, nm_6, nm_7, nm_8, nm_12, nm_16, nm_24, nm_40, nm_180, nm_300, nm_10210, na_0, na_2, na_3, na_4, na_5, na_6, na_7, na_8, nm_p, nm_m, nI_clamp, f2]); exact rfl) dX8_put_2_47 ?_
  refine t_iast (n := 12) hκ hθ (by decide) rfl rfl (by first | ((with_reducible refine vp_in_nI ?_ ?_) <;> omega) | exact i32_in (by omega) (by omega) | exact i32_in' (by simp only [Int32.toInt_add, Int32.toInt_mul, Int32.toInt_sub, Int32.reduceToInt, Int.bmod_add_bmod, Int.bmod_sub_bmod, Int.add_bmod_bmod, Int.sub_bmod_bmod, Int.bmod_mul_bmod, Int.mul_bmod_bmod]; exact i32_bm (by omega) (by omega)) (by omega) (by omega) | exact i32_in (by decide) (by decide)) (by (try simp (disch := omega) only [tS_1, tS_2, tA_1, tA_2, tF_1, tF_2, xl_0, xl_1, xl_2, Nat.reduceEqDiff, ↓reduceIte, nI_add, nI_1, nm_2, nm_3, nm_4, nm_6, nm_7, nm_8, nm_12, nm_16, nm_24, nm_40, nm_180, nm_300, nm_10210, na_0, na_2, na_3, na_4, na_5, na_6, na_7, na_8, nm_p, nm_m, nI_clamp, f2]); exact rfl) dX8_put_2_48 ?_
  refine t_retv hκ hr dX8_put_2_49 ?_
  rfl
