
/-! the reference: typing; reading signs and numbers -/
def chr (w : Int64) (k : Nat) : Int32 := ((w >>> ((nI (8 * k)).toInt64 &&& 63)) &&& 255).toInt32
def okW (w : Int64) (n : Nat) : Prop := ∀ k, k < n → 32 ≤ (chr w k).toInt ∧ (chr w k).toInt ≤ 126
/-- j signs of the word are typed at a, the highest first -/
def typ (f : Nat → Int32) (w : Int64) (a n : Nat) : Nat → Nat → Int32
  | 0 => f
  | j + 1 => upd (typ f w a n j) (a + j) (chr w (n - 1 - j))
theorem mX8_type {E : gE} {θ : TA} (hθ : tOk θ) {σ : TS} {N : Nat} (h1 : σ.1 1 = nI N) (hN : N ≤ 90) {w : Int64} {n : Int32} : TMi E θ σ yX8_type cX8_type 5 .int 2 [.long w, .int n] (fun r σ' => if 1 ≤ n.toInt ∧ n.toInt ≤ 8 then (okW w (Int32.toNatClampNeg n) → (r, σ') = if 90 < N + Int32.toNatClampNeg n then (-3, σ) else (nI (N + Int32.toNatClampNeg n), tS (tF σ 0 (typ (σ.2 0) w N (Int32.toNatClampNeg n) (Int32.toNatClampNeg n))) 1 (nI (N + Int32.toNatClampNeg n)))) ∧ (¬ okW w (Int32.toNatClampNeg n) → (r, σ') = (-1, σ)) else (r, σ') = (-1, σ)) := by
  refine TMi.of (by decide) (Nat.le_of_ble_eq_true rfl) ?_
  rintro κ rfl hL hκ hr
  by_cases hn : 1 ≤ n.toInt ∧ n.toInt ≤ 8
  · obtain ⟨m, hm, en⟩ : ∃ x : Nat, (1 ≤ x ∧ x ≤ 8) ∧ n = nI x := ⟨Int32.toNatClampNeg n, by show 1 ≤ n.toInt.toNat ∧ n.toInt.toNat ≤ 8; omega, i32_nI (by omega)⟩
    subst en
    have xn : Int32.toNatClampNeg (nI m) = m := nI_clamp (by omega)
    have fin : ∀ (r : Int32) (σ' : TS), ((okW w m → (r, σ') = if 90 < N + m then (-3, σ) else (nI (N + m), tS (tF σ 0 (typ (σ.2 0) w N m m)) 1 (nI (N + m)))) ∧ (¬ okW w m → (r, σ') = (-1, σ))) → (if 1 ≤ (nI m).toInt ∧ (nI m).toInt ≤ 8 then (okW w (Int32.toNatClampNeg (nI m)) → (r, σ') = if 90 < N + Int32.toNatClampNeg (nI m) then (-3, σ) else (nI (N + Int32.toNatClampNeg (nI m)), tS (tF σ 0 (typ (σ.2 0) w N (Int32.toNatClampNeg (nI m)) (Int32.toNatClampNeg (nI m)))) 1 (nI (N + Int32.toNatClampNeg (nI m))))) ∧ (¬ okW w (Int32.toNatClampNeg (nI m)) → (r, σ') = (-1, σ)) else (r, σ') = (-1, σ)) := fun r σ' h => by
      rw [if_pos hn, xn]
      exact h
    have typing : okW w m → N + m ≤ 90 → ∀ (q j : Nat), j ≤ m → m - j < q → X κ (tG (kE κ) θ (tS (tF σ 0 (typ (σ.2 0) w N m j)) 1 (nI (N + j)))) 0 0 70 [some (.ref θ.1), some (.long w), none, some (.int (nI m)), some (.int (nI (m - j) - 1))] [] := by
      intro hok hlim q
      induction q with
      | zero => intro j h1 h2; exact absurd h2 (Nat.not_lt_zero _)
      | succ q ih =>
        intro j hj hq
        by_cases hjm : j = m
        · subst hjm
          rw [Nat.sub_self]
          refine x_iload hκ dX8_type_70 rfl ?_
          refine x_if_lt (tgt := 112) hκ dX8_type_72 (by decide) (fun c72 => ?_) (fun c72 => ?_)
          · -- X8_type 72T
            have i72 := c72
            simp (disch := omega) only [i32_lt, i32_le, i32_eq, Int32.reduceToInt, nI_toInt] at i72
            refine x_aload_n hκ dX8_type_112 rfl ?_
            refine t_get hκ fl8_1 (by decide) (by decide) rfl (by (try simp (disch := omega) only [tS_1, tS_2, tA_1, tA_2, tF_1, tF_2, xl_0, xl_1, xl_2, Nat.reduceEqDiff, ↓reduceIte, nI_add, nI_1, nm_2, nm_3, nm_4, nm_6, nm_7, nm_8, nm_12, nm_16, nm_24, nm_40, nm_180, nm_300, nm_10210, na_0, na_2, na_3, na_4, na_5, na_6, na_7, na_8, nm_p, nm_m, nI_clamp]); exact rfl) dX8_type_113 ?_
            refine t_reti hκ hr rfl dX8_type_116 ?_
            refine fin _ _ ⟨fun _ => ?_, fun z => absurd hok z⟩
            rw [if_neg (by omega)]
          · -- X8_type 72F
            have i72 := c72
            simp (disch := omega) only [i32_lt, i32_le, i32_eq, Int32.reduceToInt, nI_toInt] at i72
            exact absurd (by decide) c72
        · rw [nm_p (by omega)]
          have e1 : m - j - 1 = m - 1 - j := by omega
          refine x_iload hκ dX8_type_70 rfl ?_
          refine x_if_lt (tgt := 112) hκ dX8_type_72 (by decide) (fun c72 => ?_) (fun c72 => ?_)
          · -- X8_type 72T
            have i72 := c72
            simp (disch := omega) only [i32_lt, i32_le, i32_eq, Int32.reduceToInt, nI_toInt] at i72
            omega
          · -- X8_type 72F
            have i72 := c72
            simp (disch := omega) only [i32_lt, i32_le, i32_eq, Int32.reduceToInt, nI_toInt] at i72
            refine x_aload_n hκ dX8_type_75 rfl ?_
            refine t_getA hκ fl8_0 (by decide) (by decide) rfl dX8_type_76 ?_
            refine x_aload_n hκ dX8_type_79 rfl ?_
            refine t_get hκ fl8_1 (by decide) (by decide) rfl (by (try simp (disch := omega) only [tS_1, tS_2, tA_1, tA_2, tF_1, tF_2, xl_0, xl_1, xl_2, Nat.reduceEqDiff, ↓reduceIte, nI_add, nI_1, nm_2, nm_3, nm_4, nm_6, nm_7, nm_8, nm_12, nm_16, nm_24, nm_40, nm_180, nm_300, nm_10210, na_0, na_2, na_3, na_4, na_5, na_6, na_7, na_8, nm_p, nm_m, nI_clamp]); exact rfl) dX8_type_80 ?_
            refine x_lload_n hκ dX8_type_83 rfl ?_
            refine x_bipush (v := 8) hκ dX8_type_84 (by decide) ?_
            refine x_iload hκ dX8_type_86 rfl ?_
            refine x_imulN hκ (by (try simp (disch := omega) only [tS_1, tS_2, tA_1, tA_2, tF_1, tF_2, xl_0, xl_1, xl_2, Nat.reduceEqDiff, ↓reduceIte, nI_add, nI_1, nm_2, nm_3, nm_4, nm_6, nm_7, nm_8, nm_12, nm_16, nm_24, nm_40, nm_180, nm_300, nm_10210, na_0, na_2, na_3, na_4, na_5, na_6, na_7, na_8, nm_p, nm_m, nI_clamp]); exact rfl) dX8_type_88 ?_
            refine x_lshr hκ dX8_type_89 ?_
            refine x_ldc2 hκ q1354 dX8_type_90 ?_
            refine x_land hκ dX8_type_93 ?_
            refine x_l2i hκ dX8_type_94 ?_
            refine t_iast (n := 90) hκ hθ (by decide) rfl rfl (by first | ((with_reducible refine vp_in_nI ?_ ?_) <;> omega) | exact i32_in (by omega) (by omega) | exact i32_in' (by simp only [Int32.toInt_add, Int32.toInt_mul, Int32.toInt_sub, Int32.reduceToInt, Int.bmod_add_bmod, Int.bmod_sub_bmod, Int.add_bmod_bmod, Int.sub_bmod_bmod, Int.bmod_mul_bmod, Int.mul_bmod_bmod]; exact i32_bm (by omega) (by omega)) (by omega) (by omega) | exact i32_in (by decide) (by decide)) (by (try simp (disch := omega) only [tS_1, tS_2, tA_1, tA_2, tF_1, tF_2, xl_0, xl_1, xl_2, Nat.reduceEqDiff, ↓reduceIte, nI_add, nI_1, nm_2, nm_3, nm_4, nm_6, nm_7, nm_8, nm_12, nm_16, nm_24, nm_40, nm_180, nm_300, nm_10210, na_0, na_2, na_3, na_4, na_5, na_6, na_7, na_8, nm_p, nm_m, nI_clamp]); exact rfl) dX8_type_95 ?_
            refine x_aload_n hκ dX8_type_96 rfl ?_
            refine x_dup hκ dX8_type_97 rfl ?_
            refine t_get hκ fl8_1 (by decide) (by decide) rfl (by (try simp (disch := omega) only [tS_1, tS_2, tA_1, tA_2, tF_1, tF_2, xl_0, xl_1, xl_2, Nat.reduceEqDiff, ↓reduceIte, nI_add, nI_1, nm_2, nm_3, nm_4, nm_6, nm_7, nm_8, nm_12, nm_16, nm_24, nm_40, nm_180, nm_300, nm_10210, na_0, na_2, na_3, na_4, na_5, na_6, na_7, na_8, nm_p, nm_m, nI_clamp]); exact rfl) dX8_type_98 ?_
            refine x_iconst (v := 1) hκ dX8_type_101 (by decide) ?_
            refine x_iaddN hκ (by (try simp (disch := omega) only [tS_1, tS_2, tA_1, tA_2, tF_1, tF_2, xl_0, xl_1, xl_2, Nat.reduceEqDiff, ↓reduceIte, nI_add, nI_1, nm_2, nm_3, nm_4, nm_6, nm_7, nm_8, nm_12, nm_16, nm_24, nm_40, nm_180, nm_300, nm_10210, na_0, na_2, na_3, na_4, na_5, na_6, na_7, na_8, nm_p, nm_m, nI_clamp]); exact rfl) dX8_type_102 ?_
            refine t_put hκ fl8_1 (by decide) (by decide) rfl rfl rfl dX8_type_103 ?_
            refine x_iincN (y := (-1)) hκ dX8_type_106 (by decide) rfl (by rw [hL]; decide) rfl (by (try simp (disch := omega) only [tS_1, tS_2, tA_1, tA_2, tF_1, tF_2, xl_0, xl_1, xl_2, Nat.reduceEqDiff, ↓reduceIte, nI_add, nI_1, nm_2, nm_3, nm_4, nm_6, nm_7, nm_8, nm_12, nm_16, nm_24, nm_40, nm_180, nm_300, nm_10210, na_0, na_2, na_3, na_4, na_5, na_6, na_7, na_8, nm_p, nm_m, nI_clamp]); exact rfl) ?_
            refine x_goto (tgt := 70) hκ dX8_type_109 (by decide) ?_
            rw [tA_tS, tA_tF, tS_tS, e1]
            have q2 := ih (j + 1) (by omega) (by omega)
            rw [typ] at q2
            rw [show nI (m - 1 - j) + (-1) = nI (m - (j + 1)) - 1 from by rw [show m - 1 - j = m - (j + 1) by omega]; exact (Int32.sub_eq_add_neg _ _).symm]
            exact q2
    have checking : ∀ (q k : Nat), k ≤ m → m - k < q → (∀ j, j < k → 32 ≤ (chr w j).toInt ∧ (chr w j).toInt ≤ 126) → X κ (tG (kE κ) θ σ) 0 0 15 [some (.ref θ.1), some (.long w), none, some (.int (nI m)), some (.int (nI k))] [] := by
      intro q
      induction q with
      | zero => intro k h1 h2; exact absurd h2 (Nat.not_lt_zero _)
      | succ q ih =>
        intro k hk hq hdone
        refine x_iload hκ dX8_type_15 rfl ?_
        refine x_iload_n hκ dX8_type_17 rfl ?_
        refine x_icmp_ge (tgt := 51) hκ dX8_type_18 (by decide) (fun c18 => ?_) (fun c18 => ?_)
        · -- X8_type 18T
          have i18 := c18
          simp (disch := omega) only [i32_lt, i32_le, i32_eq, Int32.reduceToInt, nI_toInt] at i18
          refine x_aload_n hκ dX8_type_51 rfl ?_
          refine t_get hκ fl8_1 (by decide) (by decide) rfl (by (try simp (disch := omega) only [tS_1, tS_2, tA_1, tA_2, tF_1, tF_2, xl_0, xl_1, xl_2, Nat.reduceEqDiff, ↓reduceIte, nI_add, nI_1, nm_2, nm_3, nm_4, nm_6, nm_7, nm_8, nm_12, nm_16, nm_24, nm_40, nm_180, nm_300, nm_10210, na_0, na_2, na_3, na_4, na_5, na_6, na_7, na_8, nm_p, nm_m, nI_clamp, h1]); exact rfl) dX8_type_52 ?_
          refine x_iload_n hκ dX8_type_55 rfl ?_
          refine x_iaddN hκ (by (try simp (disch := omega) only [tS_1, tS_2, tA_1, tA_2, tF_1, tF_2, xl_0, xl_1, xl_2, Nat.reduceEqDiff, ↓reduceIte, nI_add, nI_1, nm_2, nm_3, nm_4, nm_6, nm_7, nm_8, nm_12, nm_16, nm_24, nm_40, nm_180, nm_300, nm_10210, na_0, na_2, na_3, na_4, na_5, na_6, na_7, na_8, nm_p, nm_m, nI_clamp, h1]); exact rfl) dX8_type_56 ?_
          refine x_bipush (v := 90) hκ dX8_type_57 (by decide) ?_
          refine x_icmp_le (tgt := 65) hκ dX8_type_59 (by decide) (fun c59 => ?_) (fun c59 => ?_)
          · -- X8_type 59T
            have i59 := c59
            simp (disch := omega) only [i32_lt, i32_le, i32_eq, Int32.reduceToInt, nI_toInt] at i59
            refine x_iload_n hκ dX8_type_65 rfl ?_
            refine x_iconst (v := 1) hκ dX8_type_66 (by decide) ?_
            refine x_isub hκ dX8_type_67 ?_
            refine x_istore hκ dX8_type_68 (by rw [hL]; decide) rfl ?_
            have q2 := typing (fun j hj => hdone j (by omega)) (by omega) (m + 1) 0 (by omega) (by omega)
            rw [typ, tF_self, Nat.sub_zero, Nat.add_zero, ← h1] at q2
            have e0 : tS σ 1 (σ.1 1) = σ := by unfold tS; refine Prod.ext ?_ rfl; funext j; unfold upd; by_cases hj : j = 1 <;> simp [hj]
            rw [e0] at q2
            exact q2
          · -- X8_type 59F
            have i59 := c59
            simp (disch := omega) only [i32_lt, i32_le, i32_eq, Int32.reduceToInt, nI_toInt] at i59
            refine x_bipush (v := (-3)) hκ dX8_type_62 (by decide) ?_
            refine t_reti hκ hr rfl dX8_type_64 ?_
            refine fin _ _ ⟨fun _ => ?_, fun z => absurd (fun j hj => hdone j (by omega)) z⟩
            rw [if_pos (by omega)]
        · -- X8_type 18F
          have i18 := c18
          simp (disch := omega) only [i32_lt, i32_le, i32_eq, Int32.reduceToInt, nI_toInt] at i18
          refine x_lload_n hκ dX8_type_21 rfl ?_
          refine x_bipush (v := 8) hκ dX8_type_22 (by decide) ?_
          refine x_iload hκ dX8_type_24 rfl ?_
          refine x_imulN hκ (by (try simp (disch := omega) only [tS_1, tS_2, tA_1, tA_2, tF_1, tF_2, xl_0, xl_1, xl_2, Nat.reduceEqDiff, ↓reduceIte, nI_add, nI_1, nm_2, nm_3, nm_4, nm_6, nm_7, nm_8, nm_12, nm_16, nm_24, nm_40, nm_180, nm_300, nm_10210, na_0, na_2, na_3, na_4, na_5, na_6, na_7, na_8, nm_p, nm_m, nI_clamp, h1]); exact rfl) dX8_type_26 ?_
          refine x_lshr hκ dX8_type_27 ?_
          refine x_ldc2 hκ q1354 dX8_type_28 ?_
          refine x_land hκ dX8_type_31 ?_
          refine x_l2i hκ dX8_type_32 ?_
          refine x_bipush (v := 32) hκ dX8_type_33 (by decide) ?_
          refine x_bipush (v := 126) hκ dX8_type_35 (by decide) ?_
          refine x_callSi hκ mX8_in (by omega) (by decide) wX8_122 aX8_in rfl (Nat.le_of_ble_eq_true rfl) dX8_type_37 (fun r37 h37 => ?_)
          refine x_if_ne (tgt := 45) hκ dX8_type_40 (by decide) (fun c40 => ?_) (fun c40 => ?_)
          · -- X8_type 40T
            have i40 := h37.t c40
            try simp only [Int32.reduceToInt] at i40
            refine x_iincN (y := 1) hκ dX8_type_45 (by decide) rfl (by rw [hL]; decide) rfl (by (try simp (disch := omega) only [tS_1, tS_2, tA_1, tA_2, tF_1, tF_2, xl_0, xl_1, xl_2, Nat.reduceEqDiff, ↓reduceIte, nI_add, nI_1, nm_2, nm_3, nm_4, nm_6, nm_7, nm_8, nm_12, nm_16, nm_24, nm_40, nm_180, nm_300, nm_10210, na_0, na_2, na_3, na_4, na_5, na_6, na_7, na_8, nm_p, nm_m, nI_clamp, h1]); exact rfl) ?_
            refine x_goto (tgt := 15) hκ dX8_type_48 (by decide) ?_
            exact ih (k + 1) (by omega) (by omega) (fun j hj => by rcases (by omega : j < k ∨ j = k) with z | z; exact hdone j z; rw [z]; exact i40)
          · -- X8_type 40F
            have i40 := h37.f c40
            try simp only [Int32.reduceToInt] at i40
            refine x_iconst (v := (-1)) hκ dX8_type_43 (by decide) ?_
            refine t_reti hκ hr rfl dX8_type_44 ?_
            refine fin _ _ ⟨fun z => absurd (z k (by omega)) i40, fun _ => rfl⟩
    refine x_iload_n hκ dX8_type_0 rfl ?_
    refine x_iconst (v := 1) hκ dX8_type_1 (by decide) ?_
    refine x_bipush (v := 8) hκ dX8_type_2 (by decide) ?_
    refine x_callSi hκ mX8_in (by omega) (by decide) wX8_122 aX8_in rfl (Nat.le_of_ble_eq_true rfl) dX8_type_4 (fun r4 h4 => ?_)
    refine x_if_ne (tgt := 12) hκ dX8_type_7 (by decide) (fun c7 => ?_) (fun c7 => ?_)
    · -- X8_type 7T
      have i7 := h4.t c7
      try simp only [Int32.reduceToInt] at i7
      refine x_iconst (v := 0) hκ dX8_type_12 (by decide) ?_
      refine x_istore hκ dX8_type_13 (by rw [hL]; decide) rfl ?_
      exact checking (m + 1) 0 (by omega) (by omega) (fun j hj => absurd hj (Nat.not_lt_zero _))
    · -- X8_type 7F
      have i7 := h4.f c7
      try simp only [Int32.reduceToInt] at i7
      refine x_iconst (v := (-1)) hκ dX8_type_10 (by decide) ?_
      refine t_reti hκ hr rfl dX8_type_11 ?_
      omega
  · skip
    refine x_iload_n hκ dX8_type_0 rfl ?_
    refine x_iconst (v := 1) hκ dX8_type_1 (by decide) ?_
    refine x_bipush (v := 8) hκ dX8_type_2 (by decide) ?_
    refine x_callSi hκ mX8_in (by omega) (by decide) wX8_122 aX8_in rfl (Nat.le_of_ble_eq_true rfl) dX8_type_4 (fun r4 h4 => ?_)
    refine x_if_ne (tgt := 12) hκ dX8_type_7 (by decide) (fun c7 => ?_) (fun c7 => ?_)
    · -- X8_type 7T
      have i7 := h4.t c7
      try simp only [Int32.reduceToInt] at i7
      exact absurd i7 hn
    · -- X8_type 7F
      have i7 := h4.f c7
      try simp only [Int32.reduceToInt] at i7
      refine x_iconst (v := (-1)) hκ dX8_type_10 (by decide) ?_
      refine t_reti hκ hr rfl dX8_type_11 ?_
      rw [if_neg hn]
/-- the first place from a on that isn't a space -/
def skF (T : Nat → Int32) (N : Nat) : Nat → Nat → Nat
  | 0, a => a
  | f + 1, a => if a < N ∧ T a = 32 then skF T N f (a + 1) else a
def skp (T : Nat → Int32) (N a : Nat) : Nat := skF T N (N - a) a
def cur (T : Nat → Int32) (N a : Nat) : Int32 := if a < N then T a else 0
theorem skp_go {T : Nat → Int32} {N a : Nat} (h : a < N) (h2 : T a = 32) : skp T N a = skp T N (a + 1) := by
  unfold skp
  rw [show N - a = (N - (a + 1)) + 1 by omega, skF, if_pos ⟨h, h2⟩]
theorem skp_at {T : Nat → Int32} {N a : Nat} (h : ¬ (a < N ∧ T a = 32)) : skp T N a = a := by
  unfold skp
  cases hf : N - a with
  | zero => rfl
  | succ f => rw [skF, if_neg h]
theorem mX8_next {E : gE} {θ : TA} (hθ : tOk θ) {σ : TS} {a N : Nat} (h9 : σ.1 9 = nI a) (h1 : σ.1 1 = nI N) (hN : N ≤ 90) (ha : a ≤ 1000) : TMi E θ σ yX8_next cX8_next 1 .int 0 [] (fun r σ' => r = cur (σ.2 0) N (skp (σ.2 0) N a) ∧ σ' = tS σ 9 (nI (skp (σ.2 0) N a))) := by
  refine TMi.of (by decide) (Nat.le_of_ble_eq_true rfl) ?_
  rintro κ rfl hL hκ hr
  have loop : ∀ (q b : Nat), b ≤ 1000 → 1001 - b < q → skp (σ.2 0) N b = skp (σ.2 0) N a → X κ (tG (kE κ) θ (tS σ 9 (nI b))) 0 0 0 [some (.ref θ.1)] [] := by
    intro q
    induction q with
    | zero => intro b h1 h2; exact absurd h2 (Nat.not_lt_zero _)
    | succ q ih =>
      intro b hb hq he
      refine x_aload_n hκ dX8_next_0 rfl ?_
      refine t_get hκ fl8_9 (by decide) (by decide) rfl (by (try simp (disch := omega) only [tS_1, tS_2, tA_1, tA_2, tF_1, tF_2, xl_0, xl_1, xl_2, Nat.reduceEqDiff, ↓reduceIte, nI_add, nI_1, nm_2, nm_3, nm_4, nm_6, nm_7, nm_8, nm_12, nm_16, nm_24, nm_40, nm_180, nm_300, nm_10210, na_0, na_2, na_3, na_4, na_5, na_6, na_7, na_8, nm_p, nm_m, nI_clamp, h1]); exact rfl) dX8_next_1 ?_
      refine x_aload_n hκ dX8_next_4 rfl ?_
      refine t_get hκ fl8_1 (by decide) (by decide) rfl (by (try simp (disch := omega) only [tS_1, tS_2, tA_1, tA_2, tF_1, tF_2, xl_0, xl_1, xl_2, Nat.reduceEqDiff, ↓reduceIte, nI_add, nI_1, nm_2, nm_3, nm_4, nm_6, nm_7, nm_8, nm_12, nm_16, nm_24, nm_40, nm_180, nm_300, nm_10210, na_0, na_2, na_3, na_4, na_5, na_6, na_7, na_8, nm_p, nm_m, nI_clamp, h1]); exact rfl) dX8_next_5 ?_
      refine x_icmp_ge (tgt := 38) hκ dX8_next_8 (by decide) (fun c8 => ?_) (fun c8 => ?_)
      · -- X8_next 8T
        have i8 := c8
        simp (disch := omega) only [i32_lt, i32_le, i32_eq, Int32.reduceToInt, nI_toInt] at i8
        refine x_aload_n hκ dX8_next_38 rfl ?_
        refine t_get hκ fl8_9 (by decide) (by decide) rfl (by (try simp (disch := omega) only [tS_1, tS_2, tA_1, tA_2, tF_1, tF_2, xl_0, xl_1, xl_2, Nat.reduceEqDiff, ↓reduceIte, nI_add, nI_1, nm_2, nm_3, nm_4, nm_6, nm_7, nm_8, nm_12, nm_16, nm_24, nm_40, nm_180, nm_300, nm_10210, na_0, na_2, na_3, na_4, na_5, na_6, na_7, na_8, nm_p, nm_m, nI_clamp, h1]); exact rfl) dX8_next_39 ?_
        refine x_aload_n hκ dX8_next_42 rfl ?_
        refine t_get hκ fl8_1 (by decide) (by decide) rfl (by (try simp (disch := omega) only [tS_1, tS_2, tA_1, tA_2, tF_1, tF_2, xl_0, xl_1, xl_2, Nat.reduceEqDiff, ↓reduceIte, nI_add, nI_1, nm_2, nm_3, nm_4, nm_6, nm_7, nm_8, nm_12, nm_16, nm_24, nm_40, nm_180, nm_300, nm_10210, na_0, na_2, na_3, na_4, na_5, na_6, na_7, na_8, nm_p, nm_m, nI_clamp, h1]); exact rfl) dX8_next_43 ?_
        refine x_icmp_ge (tgt := 61) hκ dX8_next_46 (by decide) (fun c46 => ?_) (fun c46 => ?_)
        · -- X8_next 46T
          have i46 := c46
          simp (disch := omega) only [i32_lt, i32_le, i32_eq, Int32.reduceToInt, nI_toInt] at i46
          refine x_iconst (v := 0) hκ dX8_next_61 (by decide) ?_
          refine t_reti hκ hr rfl dX8_next_62 ?_
          rw [skp_at (by omega)] at he
          rw [← he]
          unfold cur
          rw [if_neg (by omega)]
          exact ⟨rfl, rfl⟩
        · -- X8_next 46F
          have i46 := c46
          simp (disch := omega) only [i32_lt, i32_le, i32_eq, Int32.reduceToInt, nI_toInt] at i46
          refine x_aload_n hκ dX8_next_49 rfl ?_
          refine t_getA hκ fl8_0 (by decide) (by decide) rfl dX8_next_50 ?_
          refine x_aload_n hκ dX8_next_53 rfl ?_
          refine t_get hκ fl8_9 (by decide) (by decide) rfl (by (try simp (disch := omega) only [tS_1, tS_2, tA_1, tA_2, tF_1, tF_2, xl_0, xl_1, xl_2, Nat.reduceEqDiff, ↓reduceIte, nI_add, nI_1, nm_2, nm_3, nm_4, nm_6, nm_7, nm_8, nm_12, nm_16, nm_24, nm_40, nm_180, nm_300, nm_10210, na_0, na_2, na_3, na_4, na_5, na_6, na_7, na_8, nm_p, nm_m, nI_clamp, h1]); exact rfl) dX8_next_54 ?_
          refine t_iald (n := 90) hκ hθ (by decide) rfl rfl (by first | ((with_reducible refine vp_in_nI ?_ ?_) <;> omega) | exact i32_in (by omega) (by omega) | exact i32_in' (by simp only [Int32.toInt_add, Int32.toInt_mul, Int32.toInt_sub, Int32.reduceToInt, Int.bmod_add_bmod, Int.bmod_sub_bmod, Int.add_bmod_bmod, Int.sub_bmod_bmod, Int.bmod_mul_bmod, Int.mul_bmod_bmod]; exact i32_bm (by omega) (by omega)) (by omega) (by omega) | exact i32_in (by decide) (by decide)) (by (try simp (disch := omega) only [tS_1, tS_2, tA_1, tA_2, tF_1, tF_2, xl_0, xl_1, xl_2, Nat.reduceEqDiff, ↓reduceIte, nI_add, nI_1, nm_2, nm_3, nm_4, nm_6, nm_7, nm_8, nm_12, nm_16, nm_24, nm_40, nm_180, nm_300, nm_10210, na_0, na_2, na_3, na_4, na_5, na_6, na_7, na_8, nm_p, nm_m, nI_clamp, h1]); exact rfl) dX8_next_57 ?_
          refine x_goto (tgt := 62) hκ dX8_next_58 (by decide) ?_
          refine t_reti hκ hr rfl dX8_next_62 ?_
          omega
      · -- X8_next 8F
        have i8 := c8
        simp (disch := omega) only [i32_lt, i32_le, i32_eq, Int32.reduceToInt, nI_toInt] at i8
        refine x_aload_n hκ dX8_next_11 rfl ?_
        refine t_getA hκ fl8_0 (by decide) (by decide) rfl dX8_next_12 ?_
        refine x_aload_n hκ dX8_next_15 rfl ?_
        refine t_get hκ fl8_9 (by decide) (by decide) rfl (by (try simp (disch := omega) only [tS_1, tS_2, tA_1, tA_2, tF_1, tF_2, xl_0, xl_1, xl_2, Nat.reduceEqDiff, ↓reduceIte, nI_add, nI_1, nm_2, nm_3, nm_4, nm_6, nm_7, nm_8, nm_12, nm_16, nm_24, nm_40, nm_180, nm_300, nm_10210, na_0, na_2, na_3, na_4, na_5, na_6, na_7, na_8, nm_p, nm_m, nI_clamp, h1]); exact rfl) dX8_next_16 ?_
        refine t_iald (n := 90) hκ hθ (by decide) rfl rfl (by first | ((with_reducible refine vp_in_nI ?_ ?_) <;> omega) | exact i32_in (by omega) (by omega) | exact i32_in' (by simp only [Int32.toInt_add, Int32.toInt_mul, Int32.toInt_sub, Int32.reduceToInt, Int.bmod_add_bmod, Int.bmod_sub_bmod, Int.add_bmod_bmod, Int.sub_bmod_bmod, Int.bmod_mul_bmod, Int.mul_bmod_bmod]; exact i32_bm (by omega) (by omega)) (by omega) (by omega) | exact i32_in (by decide) (by decide)) (by (try simp (disch := omega) only [tS_1, tS_2, tA_1, tA_2, tF_1, tF_2, xl_0, xl_1, xl_2, Nat.reduceEqDiff, ↓reduceIte, nI_add, nI_1, nm_2, nm_3, nm_4, nm_6, nm_7, nm_8, nm_12, nm_16, nm_24, nm_40, nm_180, nm_300, nm_10210, na_0, na_2, na_3, na_4, na_5, na_6, na_7, na_8, nm_p, nm_m, nI_clamp, h1]); exact rfl) dX8_next_19 ?_
        refine x_bipush (v := 32) hκ dX8_next_20 (by decide) ?_
        refine x_icmp_ne (tgt := 38) hκ dX8_next_22 (by decide) (fun c22 => ?_) (fun c22 => ?_)
        · -- X8_next 22T
          have i22 := c22
          simp (disch := omega) only [i32_lt, i32_le, i32_eq, Int32.reduceToInt, nI_toInt] at i22
          refine x_aload_n hκ dX8_next_38 rfl ?_
          refine t_get hκ fl8_9 (by decide) (by decide) rfl (by (try simp (disch := omega) only [tS_1, tS_2, tA_1, tA_2, tF_1, tF_2, xl_0, xl_1, xl_2, Nat.reduceEqDiff, ↓reduceIte, nI_add, nI_1, nm_2, nm_3, nm_4, nm_6, nm_7, nm_8, nm_12, nm_16, nm_24, nm_40, nm_180, nm_300, nm_10210, na_0, na_2, na_3, na_4, na_5, na_6, na_7, na_8, nm_p, nm_m, nI_clamp, h1]); exact rfl) dX8_next_39 ?_
          refine x_aload_n hκ dX8_next_42 rfl ?_
          refine t_get hκ fl8_1 (by decide) (by decide) rfl (by (try simp (disch := omega) only [tS_1, tS_2, tA_1, tA_2, tF_1, tF_2, xl_0, xl_1, xl_2, Nat.reduceEqDiff, ↓reduceIte, nI_add, nI_1, nm_2, nm_3, nm_4, nm_6, nm_7, nm_8, nm_12, nm_16, nm_24, nm_40, nm_180, nm_300, nm_10210, na_0, na_2, na_3, na_4, na_5, na_6, na_7, na_8, nm_p, nm_m, nI_clamp, h1]); exact rfl) dX8_next_43 ?_
          refine x_icmp_ge (tgt := 61) hκ dX8_next_46 (by decide) (fun c46 => ?_) (fun c46 => ?_)
          · -- X8_next 46T
            have i46 := c46
            simp (disch := omega) only [i32_lt, i32_le, i32_eq, Int32.reduceToInt, nI_toInt] at i46
            refine x_iconst (v := 0) hκ dX8_next_61 (by decide) ?_
            refine t_reti hκ hr rfl dX8_next_62 ?_
            omega
          · -- X8_next 46F
            have i46 := c46
            simp (disch := omega) only [i32_lt, i32_le, i32_eq, Int32.reduceToInt, nI_toInt] at i46
            refine x_aload_n hκ dX8_next_49 rfl ?_
            refine t_getA hκ fl8_0 (by decide) (by decide) rfl dX8_next_50 ?_
            refine x_aload_n hκ dX8_next_53 rfl ?_
            refine t_get hκ fl8_9 (by decide) (by decide) rfl (by (try simp (disch := omega) only [tS_1, tS_2, tA_1, tA_2, tF_1, tF_2, xl_0, xl_1, xl_2, Nat.reduceEqDiff, ↓reduceIte, nI_add, nI_1, nm_2, nm_3, nm_4, nm_6, nm_7, nm_8, nm_12, nm_16, nm_24, nm_40, nm_180, nm_300, nm_10210, na_0, na_2, na_3, na_4, na_5, na_6, na_7, na_8, nm_p, nm_m, nI_clamp, h1]); exact rfl) dX8_next_54 ?_
            refine t_iald (n := 90) hκ hθ (by decide) rfl rfl (by first | ((with_reducible refine vp_in_nI ?_ ?_) <;> omega) | exact i32_in (by omega) (by omega) | exact i32_in' (by simp only [Int32.toInt_add, Int32.toInt_mul, Int32.toInt_sub, Int32.reduceToInt, Int.bmod_add_bmod, Int.bmod_sub_bmod, Int.add_bmod_bmod, Int.sub_bmod_bmod, Int.bmod_mul_bmod, Int.mul_bmod_bmod]; exact i32_bm (by omega) (by omega)) (by omega) (by omega) | exact i32_in (by decide) (by decide)) (by (try simp (disch := omega) only [tS_1, tS_2, tA_1, tA_2, tF_1, tF_2, xl_0, xl_1, xl_2, Nat.reduceEqDiff, ↓reduceIte, nI_add, nI_1, nm_2, nm_3, nm_4, nm_6, nm_7, nm_8, nm_12, nm_16, nm_24, nm_40, nm_180, nm_300, nm_10210, na_0, na_2, na_3, na_4, na_5, na_6, na_7, na_8, nm_p, nm_m, nI_clamp, h1]); exact rfl) dX8_next_57 ?_
            refine x_goto (tgt := 62) hκ dX8_next_58 (by decide) ?_
            refine t_reti hκ hr rfl dX8_next_62 ?_
            rw [skp_at (fun z => c22 z.2)] at he
            rw [← he]
            unfold cur
            rw [if_pos (by omega)]
            exact ⟨rfl, rfl⟩
        · -- X8_next 22F
          have i22 := c22
          simp (disch := omega) only [i32_lt, i32_le, i32_eq, Int32.reduceToInt, nI_toInt] at i22
          refine x_aload_n hκ dX8_next_25 rfl ?_
          refine x_dup hκ dX8_next_26 rfl ?_
          refine t_get hκ fl8_9 (by decide) (by decide) rfl (by (try simp (disch := omega) only [tS_1, tS_2, tA_1, tA_2, tF_1, tF_2, xl_0, xl_1, xl_2, Nat.reduceEqDiff, ↓reduceIte, nI_add, nI_1, nm_2, nm_3, nm_4, nm_6, nm_7, nm_8, nm_12, nm_16, nm_24, nm_40, nm_180, nm_300, nm_10210, na_0, na_2, na_3, na_4, na_5, na_6, na_7, na_8, nm_p, nm_m, nI_clamp, h1]); exact rfl) dX8_next_27 ?_
          refine x_iconst (v := 1) hκ dX8_next_30 (by decide) ?_
          refine x_iaddN hκ (by (try simp (disch := omega) only [tS_1, tS_2, tA_1, tA_2, tF_1, tF_2, xl_0, xl_1, xl_2, Nat.reduceEqDiff, ↓reduceIte, nI_add, nI_1, nm_2, nm_3, nm_4, nm_6, nm_7, nm_8, nm_12, nm_16, nm_24, nm_40, nm_180, nm_300, nm_10210, na_0, na_2, na_3, na_4, na_5, na_6, na_7, na_8, nm_p, nm_m, nI_clamp, h1]); exact rfl) dX8_next_31 ?_
          refine t_put hκ fl8_9 (by decide) (by decide) rfl rfl rfl dX8_next_32 ?_
          refine x_goto (tgt := 0) hκ dX8_next_35 (by decide) ?_
          rw [tS_tS]
          exact ih (b + 1) (by omega) (by omega) (by rw [← he, skp_go (by omega) c22])
  have e0 : tS σ 9 (σ.1 9) = σ := by unfold tS; refine Prod.ext ?_ rfl; funext j; unfold upd; by_cases hj : j = 9 <;> simp [hj]
  have := loop 1002 a ha (by omega) rfl
  rw [← h9, e0] at this
  exact this
theorem mX8_fails {E : gE} {θ : TA} (hθ : tOk θ) {σ : TS} {p : Int32} : TMv E θ σ yX8_fails cX8_fails 2 0 [.int p] (fun σ' => σ' = tS σ 10 (if (σ.1 10).toInt < 0 then p else σ.1 10)) := by
  refine TMv.of (by decide) (Nat.le_of_ble_eq_true rfl) ?_
  rintro κ rfl hL hκ hr
  refine x_aload_n hκ dX8_fails_0 rfl ?_
  refine x_aload_n hκ dX8_fails_1 rfl ?_
  refine t_get hκ fl8_10 (by decide) (by decide) rfl (by (try simp (disch := omega) only [tS_1, tS_2, tA_1, tA_2, tF_1, tF_2, xl_0, xl_1, xl_2, Nat.reduceEqDiff, ↓reduceIte, nI_add, nI_1, nm_2, nm_3, nm_4, nm_6, nm_7, nm_8, nm_12, nm_16, nm_24, nm_40, nm_180, nm_300, nm_10210, na_0, na_2, na_3, na_4, na_5, na_6, na_7, na_8, nm_p, nm_m, nI_clamp]); exact rfl) dX8_fails_2 ?_
  refine x_if_ge (tgt := 12) hκ dX8_fails_5 (by decide) (fun c5 => ?_) (fun c5 => ?_)
  · -- X8_fails 5T
    have i5 := c5
    simp (disch := omega) only [i32_lt, i32_le, i32_eq, Int32.reduceToInt, nI_toInt] at i5
    refine x_aload_n hκ dX8_fails_12 rfl ?_
    refine t_get hκ fl8_10 (by decide) (by decide) rfl (by (try simp (disch := omega) only [tS_1, tS_2, tA_1, tA_2, tF_1, tF_2, xl_0, xl_1, xl_2, Nat.reduceEqDiff, ↓reduceIte, nI_add, nI_1, nm_2, nm_3, nm_4, nm_6, nm_7, nm_8, nm_12, nm_16, nm_24, nm_40, nm_180, nm_300, nm_10210, na_0, na_2, na_3, na_4, na_5, na_6, na_7, na_8, nm_p, nm_m, nI_clamp]); exact rfl) dX8_fails_13 ?_
    refine t_put hκ fl8_10 (by decide) (by decide) rfl rfl rfl dX8_fails_16 ?_
    refine t_retv hκ hr dX8_fails_19 ?_
    rw [if_neg (by omega)]
  · -- X8_fails 5F
    have i5 := c5
    simp (disch := omega) only [i32_lt, i32_le, i32_eq, Int32.reduceToInt, nI_toInt] at i5
    refine x_iload_n hκ dX8_fails_8 rfl ?_
    refine x_goto (tgt := 16) hκ dX8_fails_9 (by decide) ?_
    refine t_put hκ fl8_10 (by decide) (by decide) rfl rfl rfl dX8_fails_16 ?_
    refine t_retv hκ hr dX8_fails_19 ?_
    rw [if_pos (by omega)]
theorem mX8_put {E : gE} {θ : TA} (hθ : tOk θ) {σ : TS} {n : Nat} (hn : σ.1 15 = nI n) (h : n < 180) {c : Int32} : TMv E θ σ yX8_put cX8_put 2 0 [.int c] (fun σ' => σ' = tS (tA σ 14 n c) 15 (nI (n + 1))) := by
  refine TMv.of (by decide) (Nat.le_of_ble_eq_true rfl) ?_
  rintro κ rfl hL hκ hr
  refine x_aload_n hκ dX8_put_0 rfl ?_
  refine t_getA hκ fl8_14 (by decide) (by decide) rfl dX8_put_1 ?_
  refine x_aload_n hκ dX8_put_4 rfl ?_
  refine t_get hκ fl8_15 (by decide) (by decide) rfl (by (try simp (disch := omega) only [tS_1, tS_2, tA_1, tA_2, tF_1, tF_2, xl_0, xl_1, xl_2, Nat.reduceEqDiff, ↓reduceIte, nI_add, nI_1, nm_2, nm_3, nm_4, nm_6, nm_7, nm_8, nm_12, nm_16, nm_24, nm_40, nm_180, nm_300, nm_10210, na_0, na_2, na_3, na_4, na_5, na_6, na_7, na_8, nm_p, nm_m, nI_clamp, hn]); exact rfl) dX8_put_5 ?_
  refine x_iload_n hκ dX8_put_8 rfl ?_
  refine t_iast (n := 180) hκ hθ (by decide) rfl rfl (by first | ((with_reducible refine vp_in_nI ?_ ?_) <;> omega) | exact i32_in (by omega) (by omega) | exact i32_in' (by simp only [Int32.toInt_add, Int32.toInt_mul, Int32.toInt_sub, Int32.reduceToInt, Int.bmod_add_bmod, Int.bmod_sub_bmod, Int.add_bmod_bmod, Int.sub_bmod_bmod, Int.bmod_mul_bmod, Int.mul_bmod_bmod]; exact i32_bm (by omega) (by omega)) (by omega) (by omega) | exact i32_in (by decide) (by decide)) (by (try simp (disch := omega) only [tS_1, tS_2, tA_1, tA_2, tF_1, tF_2, xl_0, xl_1, xl_2, Nat.reduceEqDiff, ↓reduceIte, nI_add, nI_1, nm_2, nm_3, nm_4, nm_6, nm_7, nm_8, nm_12, nm_16, nm_24, nm_40, nm_180, nm_300, nm_10210, na_0, na_2, na_3, na_4, na_5, na_6, na_7, na_8, nm_p, nm_m, nI_clamp, hn]); exact rfl) dX8_put_9 ?_
  refine x_aload_n hκ dX8_put_10 rfl ?_
  refine x_dup hκ dX8_put_11 rfl ?_
  refine t_get hκ fl8_15 (by decide) (by decide) rfl (by (try simp (disch := omega) only [tS_1, tS_2, tA_1, tA_2, tF_1, tF_2, xl_0, xl_1, xl_2, Nat.reduceEqDiff, ↓reduceIte, nI_add, nI_1, nm_2, nm_3, nm_4, nm_6, nm_7, nm_8, nm_12, nm_16, nm_24, nm_40, nm_180, nm_300, nm_10210, na_0, na_2, na_3, na_4, na_5, na_6, na_7, na_8, nm_p, nm_m, nI_clamp, hn]); exact rfl) dX8_put_12 ?_
  refine x_iconst (v := 1) hκ dX8_put_15 (by decide) ?_
  refine x_iaddN hκ (by (try simp (disch := omega) only [tS_1, tS_2, tA_1, tA_2, tF_1, tF_2, xl_0, xl_1, xl_2, Nat.reduceEqDiff, ↓reduceIte, nI_add, nI_1, nm_2, nm_3, nm_4, nm_6, nm_7, nm_8, nm_12, nm_16, nm_24, nm_40, nm_180, nm_300, nm_10210, na_0, na_2, na_3, na_4, na_5, na_6, na_7, na_8, nm_p, nm_m, nI_clamp, hn]); exact rfl) dX8_put_16 ?_
  refine t_put hκ fl8_15 (by decide) (by decide) rfl rfl rfl dX8_put_17 ?_
  refine t_retv hκ hr dX8_put_20 ?_
  rfl
