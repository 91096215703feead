theorem wX8_314 : GoodIn lw_all (wsV RX8 314 RX8 yX8_rootOf (ws_ yX8_rootOf cX8_rootOf 5 (some .int))) := lw_V q1549 q1551 qs60 q82 q1552
theorem aX8_rootOf : yX8_rootOf.cls = RX8 ∧ yX8_rootOf.cls ≠ "java/lang/invoke/MethodHandle" ∧ yX8_rootOf.cls ≠ "java/lang/invoke/VarHandle" ∧ (parseMethodDescriptor yX8_rootOf.desc).map (fun d => d.parameters.length) = some 1 := by decide +kernel
/-! the reference: threads, learning -/
/-- the first place below n that holds r, or n -/
def rf (ids : Nat → Int32) (r : Int32) : Nat → Nat
  | 0 => 0
  | n + 1 => if rf ids r n < n then rf ids r n else if ids n = r then n else n + 1
theorem rf_none {ids : Nat → Int32} {r : Int32} : ∀ n : Nat, (∀ j, j < n → ¬ ids j = r) → rf ids r n = n
  | 0, _ => rfl
  | n + 1, h => by
    rw [rf, rf_none n (fun j hj => h j (by omega)), if_neg (by omega), if_neg (h n (by omega))]
theorem rf_at {ids : Nat → Int32} {r : Int32} {k : Nat} (h1 : ∀ j, j < k → ¬ ids j = r) (h2 : ids k = r) : ∀ n : Nat, k < n → rf ids r n = k
  | 0, h => by omega
  | n + 1, h => by
    rw [rf]
    by_cases hk : k < n
    · rw [rf_at h1 h2 n hk, if_pos hk]
    · obtain rfl : k = n := by omega
      rw [rf_none k h1, if_neg (by omega), if_pos h2]
/-- where refs lead at last -/
def rR (ids refs : Nat → Int32) : Nat → Nat → Nat
  | 0, l => l
  | n + 1, l => if rf ids (refs l) l < l then rR ids refs n (rf ids (refs l) l) else l
theorem mX8_rootOf {E : gE} {θ : TA} (hθ : tOk θ) {σ : TS} {l : Int32} (hl : 0 ≤ l.toInt ∧ l.toInt ≤ 209) : TMi E θ σ yX8_rootOf cX8_rootOf 5 .int 0 [.int l] (fun r σ' => r = nI (rR (σ.2 31) (σ.2 32) 300 (Int32.toNatClampNeg l)) ∧ σ' = σ) := by
  refine TMi.of (by decide) (Nat.le_of_ble_eq_true rfl) ?_
  rintro κ rfl hL hκ hr
  have outer : ∀ (n k : Nat) (o : Option Value), k < n → k ≤ 209 → rR (σ.2 31) (σ.2 32) n k = rR (σ.2 31) (σ.2 32) 300 (Int32.toNatClampNeg l) → X κ (tG (kE κ) θ σ) 0 0 4 [some (.ref θ.1), some (.int l), some (.int (nI k)), some (.int 1), o] [] := by
    intro n
    induction n with
    | zero => intro k o h1; exact absurd h1 (Nat.not_lt_zero _)
    | succ n ih =>
      intro k o hk hk2 he
      have hn := nI_toInt (n := k) (by omega)
      have inner : ∀ (f j : Nat), j ≤ k → k - j < f → (∀ i, i < j → ¬ σ.2 31 i = σ.2 32 k) → X κ (tG (kE κ) θ σ) 0 0 11 [some (.ref θ.1), some (.int l), some (.int (nI k)), some (.int 1), some (.int (nI j))] [] := by
        intro f
        induction f with
        | zero => intro j h1 h2; exact absurd h2 (Nat.not_lt_zero _)
        | succ f ih2 =>
          intro j hj hf hq
          have hm := nI_toInt (n := j) (by omega)
          have q1 := nI_clamp (n := j) (by omega)
          have q2 := nI_clamp (n := k) (by omega)
          refine x_iload hκ dX8_rootOf_11 rfl ?_
          refine x_iload_n hκ dX8_rootOf_13 rfl ?_
          refine x_icmp_ge (tgt := 39) hκ dX8_rootOf_14 (by decide) (fun c14 => ?_) (fun c14 => ?_)
          · -- X8_rootOf 14T
            have i14 := c14
            simp (disch := omega) only [i32_lt, i32_le, i32_eq, Int32.reduceToInt, nI_toInt] at i14
            refine x_iload hκ dX8_rootOf_39 rfl ?_
            refine x_iload_n hκ dX8_rootOf_41 rfl ?_
            refine x_icmp_ge (tgt := 49) hκ dX8_rootOf_42 (by decide) (fun c42 => ?_) (fun c42 => ?_)
            · -- X8_rootOf 42T
              have i42 := c42
              simp (disch := omega) only [i32_lt, i32_le, i32_eq, Int32.reduceToInt, nI_toInt] at i42
              refine x_iconst (v := 0) hκ dX8_rootOf_49 (by decide) ?_
              refine x_istore_n hκ dX8_rootOf_50 (by rw [hL]; decide) rfl ?_
              refine x_iload hκ dX8_rootOf_51 rfl ?_
              refine x_istore_n hκ dX8_rootOf_53 (by rw [hL]; decide) rfl ?_
              refine x_goto (tgt := 4) hκ dX8_rootOf_54 (by decide) ?_
              obtain rfl : j = k := by omega
              have hz : rR (σ.2 31) (σ.2 32) (n + 1) j = j := by rw [rR, rf_none j hq, if_neg (by omega)]
              rw [hz] at he
              refine x_iload_n hκ dX8_rootOf_4 rfl ?_
              refine x_if_eq (tgt := 57) hκ dX8_rootOf_5 (by decide) (fun c5 => ?_) (fun c5 => ?_)
              · -- X8_rootOf 5T
                have i5 := c5
                simp (disch := omega) only [i32_lt, i32_le, i32_eq, Int32.reduceToInt, nI_toInt] at i5
                refine x_iload_n hκ dX8_rootOf_57 rfl ?_
                refine t_reti hκ hr rfl dX8_rootOf_58 ?_
                exact ⟨by rw [← he], rfl⟩
              · -- X8_rootOf 5F
                have i5 := c5
                simp (disch := omega) only [i32_lt, i32_le, i32_eq, Int32.reduceToInt, nI_toInt] at i5
                exact absurd rfl c5
            · -- X8_rootOf 42F
              have i42 := c42
              simp (disch := omega) only [i32_lt, i32_le, i32_eq, Int32.reduceToInt, nI_toInt] at i42
              refine x_iconst (v := 1) hκ dX8_rootOf_45 (by decide) ?_
              refine x_goto (tgt := 50) hκ dX8_rootOf_46 (by decide) ?_
              refine x_istore_n hκ dX8_rootOf_50 (by rw [hL]; decide) rfl ?_
              refine x_iload hκ dX8_rootOf_51 rfl ?_
              refine x_istore_n hκ dX8_rootOf_53 (by rw [hL]; decide) rfl ?_
              refine x_goto (tgt := 4) hκ dX8_rootOf_54 (by decide) ?_
              omega
          · -- X8_rootOf 14F
            have i14 := c14
            simp (disch := omega) only [i32_lt, i32_le, i32_eq, Int32.reduceToInt, nI_toInt] at i14
            refine x_aload_n hκ dX8_rootOf_17 rfl ?_
            refine t_getA hκ fl8_31 (by decide) (by decide) rfl dX8_rootOf_18 ?_
            refine x_iload hκ dX8_rootOf_21 rfl ?_
            refine t_iald (n := 210) hκ hθ (by decide) rfl rfl (by first | ((with_reducible refine vp_in_nI ?_ ?_) <;> omega) | exact i32_in (by omega) (by omega) | exact i32_in' (by simp only [Int32.toInt_add, Int32.toInt_mul, Int32.toInt_sub, Int32.reduceToInt, Int.bmod_add_bmod, Int.bmod_sub_bmod, Int.add_bmod_bmod, Int.sub_bmod_bmod, Int.bmod_mul_bmod, Int.mul_bmod_bmod]; exact i32_bm (by omega) (by omega)) (by omega) (by omega) | exact i32_in (by decide) (by decide)) (by (try simp (disch := omega) only [tS_1, tS_2, tA_1, tA_2, tF_1, tF_2, xl_0, xl_1, xl_2, Nat.reduceEqDiff, ↓reduceIte, nI_add, nI_1, nm_2, nm_3, nm_4, nm_6, nm_7, nm_8, nm_12, nm_16, nm_24, nm_40, nm_180, nm_300, nm_10210, na_0, na_2, na_3, na_4, na_5, na_6, na_7, na_8, nm_p, nm_m, nI_clamp]); exact rfl) dX8_rootOf_23 ?_
            refine x_aload_n hκ dX8_rootOf_24 rfl ?_
            refine t_getA hκ fl8_32 (by decide) (by decide) rfl dX8_rootOf_25 ?_
            refine x_iload_n hκ dX8_rootOf_28 rfl ?_
            refine t_iald (n := 210) hκ hθ (by decide) rfl rfl (by first | ((with_reducible refine vp_in_nI ?_ ?_) <;> omega) | exact i32_in (by omega) (by omega) | exact i32_in' (by simp only [Int32.toInt_add, Int32.toInt_mul, Int32.toInt_sub, Int32.reduceToInt, Int.bmod_add_bmod, Int.bmod_sub_bmod, Int.add_bmod_bmod, Int.sub_bmod_bmod, Int.bmod_mul_bmod, Int.mul_bmod_bmod]; exact i32_bm (by omega) (by omega)) (by omega) (by omega) | exact i32_in (by decide) (by decide)) (by (try simp (disch := omega) only [tS_1, tS_2, tA_1, tA_2, tF_1, tF_2, xl_0, xl_1, xl_2, Nat.reduceEqDiff, ↓reduceIte, nI_add, nI_1, nm_2, nm_3, nm_4, nm_6, nm_7, nm_8, nm_12, nm_16, nm_24, nm_40, nm_180, nm_300, nm_10210, na_0, na_2, na_3, na_4, na_5, na_6, na_7, na_8, nm_p, nm_m, nI_clamp]); exact rfl) dX8_rootOf_29 ?_
            refine x_icmp_eq (tgt := 39) hκ dX8_rootOf_30 (by decide) (fun c30 => ?_) (fun c30 => ?_)
            · -- X8_rootOf 30T
              have i30 := c30
              simp (disch := omega) only [i32_lt, i32_le, i32_eq, Int32.reduceToInt, nI_toInt] at i30
              refine x_iload hκ dX8_rootOf_39 rfl ?_
              refine x_iload_n hκ dX8_rootOf_41 rfl ?_
              refine x_icmp_ge (tgt := 49) hκ dX8_rootOf_42 (by decide) (fun c42 => ?_) (fun c42 => ?_)
              · -- X8_rootOf 42T
                have i42 := c42
                simp (disch := omega) only [i32_lt, i32_le, i32_eq, Int32.reduceToInt, nI_toInt] at i42
                refine x_iconst (v := 0) hκ dX8_rootOf_49 (by decide) ?_
                refine x_istore_n hκ dX8_rootOf_50 (by rw [hL]; decide) rfl ?_
                refine x_iload hκ dX8_rootOf_51 rfl ?_
                refine x_istore_n hκ dX8_rootOf_53 (by rw [hL]; decide) rfl ?_
                refine x_goto (tgt := 4) hκ dX8_rootOf_54 (by decide) ?_
                omega
              · -- X8_rootOf 42F
                have i42 := c42
                simp (disch := omega) only [i32_lt, i32_le, i32_eq, Int32.reduceToInt, nI_toInt] at i42
                refine x_iconst (v := 1) hκ dX8_rootOf_45 (by decide) ?_
                refine x_goto (tgt := 50) hκ dX8_rootOf_46 (by decide) ?_
                refine x_istore_n hκ dX8_rootOf_50 (by rw [hL]; decide) rfl ?_
                refine x_iload hκ dX8_rootOf_51 rfl ?_
                refine x_istore_n hκ dX8_rootOf_53 (by rw [hL]; decide) rfl ?_
                refine x_goto (tgt := 4) hκ dX8_rootOf_54 (by decide) ?_
                skip
                have hz : rf (σ.2 31) (σ.2 32 k) k = j := rf_at hq c30 k (by omega)
                rw [rR, hz, if_pos (by omega)] at he
                exact ih j _ (by omega) (by omega) he
            · -- X8_rootOf 30F
              have i30 := c30
              simp (disch := omega) only [i32_lt, i32_le, i32_eq, Int32.reduceToInt, nI_toInt] at i30
              refine x_iincN (y := 1) hκ dX8_rootOf_33 (by decide) rfl (by rw [hL]; decide) rfl (by (try simp (disch := omega) only [tS_1, tS_2, tA_1, tA_2, tF_1, tF_2, xl_0, xl_1, xl_2, Nat.reduceEqDiff, ↓reduceIte, nI_add, nI_1, nm_2, nm_3, nm_4, nm_6, nm_7, nm_8, nm_12, nm_16, nm_24, nm_40, nm_180, nm_300, nm_10210, na_0, na_2, na_3, na_4, na_5, na_6, na_7, na_8, nm_p, nm_m, nI_clamp]); exact rfl) ?_
              refine x_goto (tgt := 11) hκ dX8_rootOf_36 (by decide) ?_
              exact ih2 (j + 1) (by omega) (by omega) (fun i hi => by rcases (by omega : i < j ∨ i = j) with z | z; exact hq i z; rw [z]; exact c30)
      refine x_iload_n hκ dX8_rootOf_4 rfl ?_
      refine x_if_eq (tgt := 57) hκ dX8_rootOf_5 (by decide) (fun c5 => ?_) (fun c5 => ?_)
      · -- X8_rootOf 5T
        have i5 := c5
        simp (disch := omega) only [i32_lt, i32_le, i32_eq, Int32.reduceToInt, nI_toInt] at i5
        refine x_iload_n hκ dX8_rootOf_57 rfl ?_
        refine t_reti hκ hr rfl dX8_rootOf_58 ?_
        omega
      · -- X8_rootOf 5F
        have i5 := c5
        simp (disch := omega) only [i32_lt, i32_le, i32_eq, Int32.reduceToInt, nI_toInt] at i5
        refine x_iconst (v := 0) hκ dX8_rootOf_8 (by decide) ?_
        refine x_istore hκ dX8_rootOf_9 (by rw [hL]; decide) rfl ?_
        exact inner (k + 1) 0 (by omega) (by omega) (fun i hi => absurd hi (Nat.not_lt_zero _))
  have h0 : l = nI (Int32.toNatClampNeg l) := by rw [i32_eq, nI_toInt (by show l.toInt.toNat < _; omega)]; show _ = ((l.toInt.toNat : Nat) : Int); omega
  refine x_iload_n hκ dX8_rootOf_0 rfl ?_
  refine x_istore_n hκ dX8_rootOf_1 (by rw [hL]; decide) rfl ?_
  refine x_iconst (v := 1) hκ dX8_rootOf_2 (by decide) ?_
  refine x_istore_n hκ dX8_rootOf_3 (by rw [hL]; decide) rfl ?_
  have q := outer 300 (Int32.toNatClampNeg l) none (by show l.toInt.toNat < _; omega) (by show l.toInt.toNat ≤ _; omega) rfl
  rw [← h0] at q
  exact q
theorem i32_nI {l : Int32} (h : 0 ≤ l.toInt) : l = nI (Int32.toNatClampNeg l) := by
  have h2 := i32_rg l
  rw [i32_eq, nI_toInt (by show l.toInt.toNat < _; omega)]
  show _ = ((l.toInt.toNat : Nat) : Int)
  omega
theorem rR_le {ids refs : Nat → Int32} : ∀ n l, rR ids refs n l ≤ l
  | 0, l => Nat.le_refl l
  | n + 1, l => by
    rw [rR]
    split
    · exact Nat.le_trans (rR_le n _) (by omega)
    · exact Nat.le_refl l
/-- how many below n lead to r -/
def rC (ids refs : Nat → Int32) (r : Nat) : Nat → Nat
  | 0 => 0
  | n + 1 => rC ids refs r n + if rR ids refs 300 n = r then 1 else 0
theorem rC_le {ids refs : Nat → Int32} {r : Nat} : ∀ n, rC ids refs r n ≤ n
  | 0 => Nat.le_refl 0
  | n + 1 => by have := rC_le (ids := ids) (refs := refs) (r := r) n; rw [rC]; split <;> omega
theorem mX8_thread {E : gE} {θ : TA} (hθ : tOk θ) {σ : TS} {l : Int32} (hl : 0 ≤ (σ.1 25).toInt ∧ (σ.1 25).toInt ≤ 209) : TMi E θ σ yX8_thread cX8_thread 5 .int 3 [.int l] (fun r σ' => (r = if 0 ≤ l.toInt ∧ l.toInt < (σ.1 25).toInt then nI (rC (σ.2 31) (σ.2 32) (rR (σ.2 31) (σ.2 32) 300 (Int32.toNatClampNeg l)) (Int32.toNatClampNeg (σ.1 25))) else -1) ∧ σ' = σ) := by
  refine TMi.of (by decide) (Nat.le_of_ble_eq_true rfl) ?_
  rintro κ rfl hL hκ hr
  have e0 : (σ.1 25 - 1).toInt = (σ.1 25).toInt - 1 := i32_sub (by simp only [Int32.reduceToInt]; omega) (by simp only [Int32.reduceToInt]; omega)
  have e1 := i32_nI hl.1
  have e2 : ((Int32.toNatClampNeg (σ.1 25) : Nat) : Int) = (σ.1 25).toInt := by show ((σ.1 25).toInt.toNat : Int) = _; omega
  have loop : ∀ (k i : Nat), i ≤ Int32.toNatClampNeg (σ.1 25) → Int32.toNatClampNeg (σ.1 25) - i < k → 0 ≤ l.toInt ∧ l.toInt < (σ.1 25).toInt → X κ (tG (kE κ) θ σ) 0 0 27 [some (.ref θ.1), some (.int l), some (.int (nI (rR (σ.2 31) (σ.2 32) 300 (Int32.toNatClampNeg l)))), some (.int (nI (rC (σ.2 31) (σ.2 32) (rR (σ.2 31) (σ.2 32) 300 (Int32.toNatClampNeg l)) i))), some (.int (nI i))] [] := by
    intro k
    induction k with
    | zero => intro i h1 h2; exact absurd h2 (Nat.not_lt_zero _)
    | succ k ih =>
      intro i hi hk hl2
      have hn := nI_toInt (n := i) (by omega)
      have q1 := nI_clamp (n := i) (by omega)
      have r1 := rR_le (ids := σ.2 31) (refs := σ.2 32) 300 i
      have r2 := rR_le (ids := σ.2 31) (refs := σ.2 32) 300 (Int32.toNatClampNeg l)
      have r3 : ((Int32.toNatClampNeg l : Nat) : Int) = l.toInt := by show (l.toInt.toNat : Int) = _; omega
      refine x_iload hκ dX8_thread_27 rfl ?_
      refine x_aload_n hκ dX8_thread_29 rfl ?_
      refine t_get hκ fl8_25 (by decide) (by decide) rfl (by (try simp (disch := omega) only [tS_1, tS_2, tA_1, tA_2, tF_1, tF_2, xl_0, xl_1, xl_2, Nat.reduceEqDiff, ↓reduceIte, nI_add, nI_1, nm_2, nm_3, nm_4, nm_6, nm_7, nm_8, nm_12, nm_16, nm_24, nm_40, nm_180, nm_300, nm_10210, na_0, na_2, na_3, na_4, na_5, na_6, na_7, na_8, nm_p, nm_m, nI_clamp]); exact rfl) dX8_thread_30 ?_
      refine x_icmp_ge (tgt := 60) hκ dX8_thread_33 (by decide) (fun c33 => ?_) (fun c33 => ?_)
      · -- X8_thread 33T
        have i33 := c33
        simp (disch := omega) only [i32_lt, i32_le, i32_eq, Int32.reduceToInt, nI_toInt] at i33
        refine x_iload_n hκ dX8_thread_60 rfl ?_
        refine t_reti hκ hr rfl dX8_thread_61 ?_
        have hz : i = Int32.toNatClampNeg (σ.1 25) := by omega
        subst hz
        rw [if_pos hl2]
        exact ⟨rfl, rfl⟩
      · -- X8_thread 33F
        have i33 := c33
        simp (disch := omega) only [i32_lt, i32_le, i32_eq, Int32.reduceToInt, nI_toInt] at i33
        refine x_iload_n hκ dX8_thread_36 rfl ?_
        refine x_aload_n hκ dX8_thread_37 rfl ?_
        refine x_iload hκ dX8_thread_38 rfl ?_
        refine t_callR hκ (mX8_rootOf hθ (by omega)) (by omega) (by decide) wX8_314 aX8_rootOf rfl (Nat.le_of_ble_eq_true rfl) dX8_thread_40 (fun r40 h40 => ?_)
        subst h40
        rw [show Int32.toNatClampNeg (nI i) = i from q1]
        refine x_iload_n hκ dX8_thread_43 rfl ?_
        refine x_icmp_ne (tgt := 51) hκ dX8_thread_44 (by decide) (fun c44 => ?_) (fun c44 => ?_)
        · -- X8_thread 44T
          have i44 := c44
          simp (disch := omega) only [i32_lt, i32_le, i32_eq, Int32.reduceToInt, nI_toInt] at i44
          refine x_iconst (v := 0) hκ dX8_thread_51 (by decide) ?_
          refine x_iaddN hκ (by (try simp (disch := omega) only [tS_1, tS_2, tA_1, tA_2, tF_1, tF_2, xl_0, xl_1, xl_2, Nat.reduceEqDiff, ↓reduceIte, nI_add, nI_1, nm_2, nm_3, nm_4, nm_6, nm_7, nm_8, nm_12, nm_16, nm_24, nm_40, nm_180, nm_300, nm_10210, na_0, na_2, na_3, na_4, na_5, na_6, na_7, na_8, nm_p, nm_m, nI_clamp]); exact rfl) dX8_thread_52 ?_
          refine x_istore_n hκ dX8_thread_53 (by rw [hL]; decide) rfl ?_
          refine x_iincN (y := 1) hκ dX8_thread_54 (by decide) rfl (by rw [hL]; decide) rfl (by (try simp (disch := omega) only [tS_1, tS_2, tA_1, tA_2, tF_1, tF_2, xl_0, xl_1, xl_2, Nat.reduceEqDiff, ↓reduceIte, nI_add, nI_1, nm_2, nm_3, nm_4, nm_6, nm_7, nm_8, nm_12, nm_16, nm_24, nm_40, nm_180, nm_300, nm_10210, na_0, na_2, na_3, na_4, na_5, na_6, na_7, na_8, nm_p, nm_m, nI_clamp]); exact rfl) ?_
          refine x_goto (tgt := 27) hκ dX8_thread_57 (by decide) ?_
          rw [nI_eq (by omega) (by omega)] at c44
          have q := ih (i + 1) (by omega) (by omega) hl2
          rw [rC, if_neg c44] at q
          exact q
        · -- X8_thread 44F
          have i44 := c44
          simp (disch := omega) only [i32_lt, i32_le, i32_eq, Int32.reduceToInt, nI_toInt] at i44
          refine x_iconst (v := 1) hκ dX8_thread_47 (by decide) ?_
          refine x_goto (tgt := 52) hκ dX8_thread_48 (by decide) ?_
          refine x_iaddN hκ (by (try simp (disch := omega) only [tS_1, tS_2, tA_1, tA_2, tF_1, tF_2, xl_0, xl_1, xl_2, Nat.reduceEqDiff, ↓reduceIte, nI_add, nI_1, nm_2, nm_3, nm_4, nm_6, nm_7, nm_8, nm_12, nm_16, nm_24, nm_40, nm_180, nm_300, nm_10210, na_0, na_2, na_3, na_4, na_5, na_6, na_7, na_8, nm_p, nm_m, nI_clamp]); exact rfl) dX8_thread_52 ?_
          refine x_istore_n hκ dX8_thread_53 (by rw [hL]; decide) rfl ?_
          refine x_iincN (y := 1) hκ dX8_thread_54 (by decide) rfl (by rw [hL]; decide) rfl (by (try simp (disch := omega) only [tS_1, tS_2, tA_1, tA_2, tF_1, tF_2, xl_0, xl_1, xl_2, Nat.reduceEqDiff, ↓reduceIte, nI_add, nI_1, nm_2, nm_3, nm_4, nm_6, nm_7, nm_8, nm_12, nm_16, nm_24, nm_40, nm_180, nm_300, nm_10210, na_0, na_2, na_3, na_4, na_5, na_6, na_7, na_8, nm_p, nm_m, nI_clamp]); exact rfl) ?_
          refine x_goto (tgt := 27) hκ dX8_thread_57 (by decide) ?_
          rw [nI_eq (by omega) (by omega)] at c44
          have q := ih (i + 1) (by omega) (by omega) hl2
          rw [rC, if_pos c44] at q
          exact q
  refine x_iload_n hκ dX8_thread_0 rfl ?_
  refine x_iconst (v := 0) hκ dX8_thread_1 (by decide) ?_
  refine x_aload_n hκ dX8_thread_2 rfl ?_
  refine t_get hκ fl8_25 (by decide) (by decide) rfl (by (try simp (disch := omega) only [tS_1, tS_2, tA_1, tA_2, tF_1, tF_2, xl_0, xl_1, xl_2, Nat.reduceEqDiff, ↓reduceIte, nI_add, nI_1, nm_2, nm_3, nm_4, nm_6, nm_7, nm_8, nm_12, nm_16, nm_24, nm_40, nm_180, nm_300, nm_10210, na_0, na_2, na_3, na_4, na_5, na_6, na_7, na_8, nm_p, nm_m, nI_clamp]); exact rfl) dX8_thread_3 ?_
  refine x_iconst (v := 1) hκ dX8_thread_6 (by decide) ?_
  refine x_isubN hκ (by (try simp (disch := omega) only [tS_1, tS_2, tA_1, tA_2, tF_1, tF_2, xl_0, xl_1, xl_2, Nat.reduceEqDiff, ↓reduceIte, nI_add, nI_1, nm_2, nm_3, nm_4, nm_6, nm_7, nm_8, nm_12, nm_16, nm_24, nm_40, nm_180, nm_300, nm_10210, na_0, na_2, na_3, na_4, na_5, na_6, na_7, na_8, nm_p, nm_m, nI_clamp]); exact rfl) dX8_thread_7 ?_
  refine x_callSi hκ mX8_in (by omega) (by decide) wX8_122 aX8_in rfl (Nat.le_of_ble_eq_true rfl) dX8_thread_8 (fun r8 h8 => ?_)
  rw [e0] at h8
  refine x_if_ne (tgt := 16) hκ dX8_thread_11 (by decide) (fun c11 => ?_) (fun c11 => ?_)
  · -- X8_thread 11T
    have i11 := h8.t c11
    try simp only [Int32.reduceToInt] at i11
    refine x_aload_n hκ dX8_thread_16 rfl ?_
    refine x_iload_n hκ dX8_thread_17 rfl ?_
    refine t_callR hκ (mX8_rootOf hθ (by omega)) (by omega) (by decide) wX8_314 aX8_rootOf rfl (Nat.le_of_ble_eq_true rfl) dX8_thread_18 (fun r18 h18 => ?_)
    subst h18
    refine x_istore_n hκ dX8_thread_21 (by rw [hL]; decide) rfl ?_
    refine x_iconst (v := 0) hκ dX8_thread_22 (by decide) ?_
    refine x_istore_n hκ dX8_thread_23 (by rw [hL]; decide) rfl ?_
    refine x_iconst (v := 0) hκ dX8_thread_24 (by decide) ?_
    refine x_istore hκ dX8_thread_25 (by rw [hL]; decide) rfl ?_
    exact loop (Int32.toNatClampNeg (σ.1 25) + 1) 0 (by omega) (by omega) (by omega)
  · -- X8_thread 11F
    have i11 := h8.f c11
    try simp only [Int32.reduceToInt] at i11
    refine x_iconst (v := (-1)) hκ dX8_thread_14 (by decide) ?_
    refine t_reti hκ hr rfl dX8_thread_15 ?_
    first | (rw [if_neg (by omega)]; exact ⟨rfl, rfl⟩) | (rw [if_pos (by omega)]; exact ⟨rfl, rfl⟩) | done
/-- learning: products -/
def bt1 (x : Int32) (n : Nat) : Prop := (x >>> (nI n &&& 31)) &&& 1 = 1
def jA (kn wd : Nat → Int32) (x : Int32) : Nat → Int64
  | 0 => (kn 0).toInt64 + 1
  | n + 1 => if (x >>> (nI n &&& 31)) &&& 1 = 1 then jA kn wd x n * (((kn 1).toInt64 + 2) * ((wd n).toInt64 + 1)) else jA kn wd x n
def jB (kn wd : Nat → Int32) (x : Int32) : Nat → Int64
  | 0 => (kn 1).toInt64 + 1
  | n + 1 => if (x >>> (nI n &&& 31)) &&& 1 = 1 then jB kn wd x n * (((kn 0).toInt64 + 2) * ((wd (12 + n)).toInt64 + 1)) else jB kn wd x n
def jk (kn wd : Nat → Int32) (x : Int32) : Prop := jB kn wd x 12 < jA kn wd x 12
theorem lg_pos {x y : Int64} : ¬ lg_cmp x y ≤ 0 ↔ y < x := by
  unfold lg_cmp
  by_cases h : y < x
  · rw [if_pos h]; exact ⟨fun _ => h, fun _ => by decide⟩
  · rw [if_neg h]
    by_cases h2 : x = y
    · rw [if_pos h2]; exact ⟨fun z => absurd (by decide) z, fun z => absurd z h⟩
    · rw [if_neg h2]; exact ⟨fun z => absurd (by decide) z, fun z => absurd z h⟩
theorem nI_12 (i : Nat) : (12 : Int32) + nI i = nI (12 + i) := nI_add 12 i
theorem mX8_isJunk {E : gE} {θ : TA} (hθ : tOk θ) {σ : TS} {l : Int32} (hl : 0 ≤ l.toInt ∧ l.toInt ≤ 209) : TMi E θ σ yX8_isJunk cX8_isJunk 7 .boolean 0 [.int l] (fun r σ' => Tz (jk (σ.2 57) (σ.2 58) (σ.2 28 (Int32.toNatClampNeg l))) r ∧ σ' = σ) := by
  refine TMi.of (by decide) (Nat.le_of_ble_eq_true rfl) ?_
  rintro κ rfl hL hκ hr
  have loop : ∀ (k i : Nat), i ≤ 12 → 12 - i < k → X κ (tG (kE κ) θ σ) 0 0 24 [some (.ref θ.1), some (.int l), some (.long (jA (σ.2 57) (σ.2 58) (σ.2 28 (Int32.toNatClampNeg l)) i)), none, some (.long (jB (σ.2 57) (σ.2 58) (σ.2 28 (Int32.toNatClampNeg l)) i)), none, some (.int (nI i))] [] := by
    intro k
    induction k with
    | zero => intro i h1 h2; exact absurd h2 (Nat.not_lt_zero _)
    | succ k ih =>
      intro i hi hk
      have hn := nI_toInt (n := i) (by omega)
      have q1 := nI_clamp (n := i) (by omega)
      refine x_iload hκ dX8_isJunk_24 rfl ?_
      refine x_bipush (v := 12) hκ dX8_isJunk_26 (by decide) ?_
      refine x_icmp_ge (tgt := 107) hκ dX8_isJunk_28 (by decide) (fun c28 => ?_) (fun c28 => ?_)
      · -- X8_isJunk 28T
        have i28 := c28
        simp (disch := omega) only [i32_lt, i32_le, i32_eq, Int32.reduceToInt, nI_toInt] at i28
        refine x_lload_n hκ dX8_isJunk_107 rfl ?_
        refine x_lload hκ dX8_isJunk_108 rfl ?_
        refine x_lcmp hκ dX8_isJunk_110 ?_
        refine x_if_le (tgt := 118) hκ dX8_isJunk_111 (by decide) (fun c111 => ?_) (fun c111 => ?_)
        · -- X8_isJunk 111T
          have i111 := c111
          simp (disch := omega) only [i32_lt, i32_le, i32_eq, Int32.reduceToInt, nI_toInt] at i111
          refine x_iconst (v := 0) hκ dX8_isJunk_118 (by decide) ?_
          refine t_retz hκ hr rfl dX8_isJunk_119 (by first | exact Or.inl rfl | exact Or.inr rfl) ?_
          obtain rfl : i = 12 := by omega
          exact ⟨Tz0 (fun z => (lg_pos.mpr z) c111), rfl⟩
        · -- X8_isJunk 111F
          have i111 := c111
          simp (disch := omega) only [i32_lt, i32_le, i32_eq, Int32.reduceToInt, nI_toInt] at i111
          refine x_iconst (v := 1) hκ dX8_isJunk_114 (by decide) ?_
          refine x_goto (tgt := 119) hκ dX8_isJunk_115 (by decide) ?_
          refine t_retz hκ hr rfl dX8_isJunk_119 (by first | exact Or.inl rfl | exact Or.inr rfl) ?_
          obtain rfl : i = 12 := by omega
          exact ⟨Tz1 (lg_pos.mp c111), rfl⟩
      · -- X8_isJunk 28F
        have i28 := c28
        simp (disch := omega) only [i32_lt, i32_le, i32_eq, Int32.reduceToInt, nI_toInt] at i28
        refine x_aload_n hκ dX8_isJunk_31 rfl ?_
        refine t_getA hκ fl8_28 (by decide) (by decide) rfl dX8_isJunk_32 ?_
        refine x_iload_n hκ dX8_isJunk_35 rfl ?_
        refine t_iald (n := 210) hκ hθ (by decide) rfl rfl (by first | ((with_reducible refine vp_in_nI ?_ ?_) <;> omega) | exact i32_in (by omega) (by omega) | exact i32_in' (by simp only [Int32.toInt_add, Int32.toInt_mul, Int32.toInt_sub, Int32.reduceToInt, Int.bmod_add_bmod, Int.bmod_sub_bmod, Int.add_bmod_bmod, Int.sub_bmod_bmod, Int.bmod_mul_bmod, Int.mul_bmod_bmod]; exact i32_bm (by omega) (by omega)) (by omega) (by omega) | exact i32_in (by decide) (by decide)) (by (try simp (disch := omega) only [tS_1, tS_2, tA_1, tA_2, tF_1, tF_2, xl_0, xl_1, xl_2, Nat.reduceEqDiff, ↓reduceIte, nI_add, nI_1, nm_2, nm_3, nm_4, nm_6, nm_7, nm_8, nm_12, nm_16, nm_24, nm_40, nm_180, nm_300, nm_10210, na_0, na_2, na_3, na_4, na_5, na_6, na_7, na_8, nm_p, nm_m, nI_clamp, nI_12]); exact rfl) dX8_isJunk_36 ?_
        refine x_iload hκ dX8_isJunk_37 rfl ?_
        refine x_ishr hκ dX8_isJunk_39 ?_
        refine x_iconst (v := 1) hκ dX8_isJunk_40 (by decide) ?_
        refine x_iand hκ dX8_isJunk_41 ?_
        refine x_iconst (v := 1) hκ dX8_isJunk_42 (by decide) ?_
        refine x_icmp_ne (tgt := 101) hκ dX8_isJunk_43 (by decide) (fun c43 => ?_) (fun c43 => ?_)
        · -- X8_isJunk 43T
          have i43 := c43
          simp (disch := omega) only [i32_lt, i32_le, i32_eq, Int32.reduceToInt, nI_toInt] at i43
          refine x_iincN (y := 1) hκ dX8_isJunk_101 (by decide) rfl (by rw [hL]; decide) rfl (by (try simp (disch := omega) only [tS_1, tS_2, tA_1, tA_2, tF_1, tF_2, xl_0, xl_1, xl_2, Nat.reduceEqDiff, ↓reduceIte, nI_add, nI_1, nm_2, nm_3, nm_4, nm_6, nm_7, nm_8, nm_12, nm_16, nm_24, nm_40, nm_180, nm_300, nm_10210, na_0, na_2, na_3, na_4, na_5, na_6, na_7, na_8, nm_p, nm_m, nI_clamp, nI_12]); exact rfl) ?_
          refine x_goto (tgt := 24) hκ dX8_isJunk_104 (by decide) ?_
          have q := ih (i + 1) (by omega) (by omega)
          rw [jA, jB, if_neg c43, if_neg c43] at q
          exact q
        · -- X8_isJunk 43F
          have i43 := c43
          simp (disch := omega) only [i32_lt, i32_le, i32_eq, Int32.reduceToInt, nI_toInt] at i43
          refine x_lload_n hκ dX8_isJunk_46 rfl ?_
          refine x_aload_n hκ dX8_isJunk_47 rfl ?_
          refine t_getA hκ fl8_57 (by decide) (by decide) rfl dX8_isJunk_48 ?_
          refine x_iconst (v := 1) hκ dX8_isJunk_51 (by decide) ?_
          refine t_iald (n := 2) hκ hθ (by decide) rfl rfl (by first | ((with_reducible refine vp_in_nI ?_ ?_) <;> omega) | exact i32_in (by omega) (by omega) | exact i32_in' (by simp only [Int32.toInt_add, Int32.toInt_mul, Int32.toInt_sub, Int32.reduceToInt, Int.bmod_add_bmod, Int.bmod_sub_bmod, Int.add_bmod_bmod, Int.sub_bmod_bmod, Int.bmod_mul_bmod, Int.mul_bmod_bmod]; exact i32_bm (by omega) (by omega)) (by omega) (by omega) | exact i32_in (by decide) (by decide)) (by (try simp (disch := omega) only [tS_1, tS_2, tA_1, tA_2, tF_1, tF_2, xl_0, xl_1, xl_2, Nat.reduceEqDiff, ↓reduceIte, nI_add, nI_1, nm_2, nm_3, nm_4, nm_6, nm_7, nm_8, nm_12, nm_16, nm_24, nm_40, nm_180, nm_300, nm_10210, na_0, na_2, na_3, na_4, na_5, na_6, na_7, na_8, nm_p, nm_m, nI_clamp, nI_12]); exact rfl) dX8_isJunk_52 ?_
          refine x_i2l hκ dX8_isJunk_53 ?_
          refine x_ldc2 hκ q1474 dX8_isJunk_54 ?_
          refine x_ladd hκ dX8_isJunk_57 ?_
          refine x_aload_n hκ dX8_isJunk_58 rfl ?_
          refine t_getA hκ fl8_58 (by decide) (by decide) rfl dX8_isJunk_59 ?_
          refine x_iload hκ dX8_isJunk_62 rfl ?_
          refine t_iald (n := 24) hκ hθ (by decide) rfl rfl (by first | ((with_reducible refine vp_in_nI ?_ ?_) <;> omega) | exact i32_in (by omega) (by omega) | exact i32_in' (by simp only [Int32.toInt_add, Int32.toInt_mul, Int32.toInt_sub, Int32.reduceToInt, Int.bmod_add_bmod, Int.bmod_sub_bmod, Int.add_bmod_bmod, Int.sub_bmod_bmod, Int.bmod_mul_bmod, Int.mul_bmod_bmod]; exact i32_bm (by omega) (by omega)) (by omega) (by omega) | exact i32_in (by decide) (by decide)) (by (try simp (disch := omega) only [tS_1, tS_2, tA_1, tA_2, tF_1, tF_2, xl_0, xl_1, xl_2, Nat.reduceEqDiff, ↓reduceIte, nI_add, nI_1, nm_2, nm_3, nm_4, nm_6, nm_7, nm_8, nm_12, nm_16, nm_24, nm_40, nm_180, nm_300, nm_10210, na_0, na_2, na_3, na_4, na_5, na_6, na_7, na_8, nm_p, nm_m, nI_clamp, nI_12]); exact rfl) dX8_isJunk_64 ?_
          refine x_i2l hκ dX8_isJunk_65 ?_
          refine x_lconst (v := 1) hκ dX8_isJunk_66 (by decide) ?_
          refine x_ladd hκ dX8_isJunk_67 ?_
          refine x_lmul hκ dX8_isJunk_68 ?_
          refine x_lmul hκ dX8_isJunk_69 ?_
          refine x_lstore_n hκ dX8_isJunk_70 (by rw [hL]; decide) rfl ?_
          refine x_lload hκ dX8_isJunk_71 rfl ?_
          refine x_aload_n hκ dX8_isJunk_73 rfl ?_
          refine t_getA hκ fl8_57 (by decide) (by decide) rfl dX8_isJunk_74 ?_
          refine x_iconst (v := 0) hκ dX8_isJunk_77 (by decide) ?_
          refine t_iald (n := 2) hκ hθ (by decide) rfl rfl (by first | ((with_reducible refine vp_in_nI ?_ ?_) <;> omega) | exact i32_in (by omega) (by omega) | exact i32_in' (by simp only [Int32.toInt_add, Int32.toInt_mul, Int32.toInt_sub, Int32.reduceToInt, Int.bmod_add_bmod, Int.bmod_sub_bmod, Int.add_bmod_bmod, Int.sub_bmod_bmod, Int.bmod_mul_bmod, Int.mul_bmod_bmod]; exact i32_bm (by omega) (by omega)) (by omega) (by omega) | exact i32_in (by decide) (by decide)) (by (try simp (disch := omega) only [tS_1, tS_2, tA_1, tA_2, tF_1, tF_2, xl_0, xl_1, xl_2, Nat.reduceEqDiff, ↓reduceIte, nI_add, nI_1, nm_2, nm_3, nm_4, nm_6, nm_7, nm_8, nm_12, nm_16, nm_24, nm_40, nm_180, nm_300, nm_10210, na_0, na_2, na_3, na_4, na_5, na_6, na_7, na_8, nm_p, nm_m, nI_clamp, nI_12]); exact rfl) dX8_isJunk_78 ?_
          refine x_i2l hκ dX8_isJunk_79 ?_
          refine x_ldc2 hκ q1474 dX8_isJunk_80 ?_
          refine x_ladd hκ dX8_isJunk_83 ?_
          refine x_aload_n hκ dX8_isJunk_84 rfl ?_
          refine t_getA hκ fl8_58 (by decide) (by decide) rfl dX8_isJunk_85 ?_
          refine x_bipush (v := 12) hκ dX8_isJunk_88 (by decide) ?_
          refine x_iload hκ dX8_isJunk_90 rfl ?_
          refine x_iaddN hκ (by (try simp (disch := omega) only [tS_1, tS_2, tA_1, tA_2, tF_1, tF_2, xl_0, xl_1, xl_2, Nat.reduceEqDiff, ↓reduceIte, nI_add, nI_1, nm_2, nm_3, nm_4, nm_6, nm_7, nm_8, nm_12, nm_16, nm_24, nm_40, nm_180, nm_300, nm_10210, na_0, na_2, na_3, na_4, na_5, na_6, na_7, na_8, nm_p, nm_m, nI_clamp, nI_12]); exact rfl) dX8_isJunk_92 ?_
          refine t_iald (n := 24) hκ hθ (by decide) rfl rfl (by first | ((with_reducible refine vp_in_nI ?_ ?_) <;> omega) | exact i32_in (by omega) (by omega) | exact i32_in' (by simp only [Int32.toInt_add, Int32.toInt_mul, Int32.toInt_sub, Int32.reduceToInt, Int.bmod_add_bmod, Int.bmod_sub_bmod, Int.add_bmod_bmod, Int.sub_bmod_bmod, Int.bmod_mul_bmod, Int.mul_bmod_bmod]; exact i32_bm (by omega) (by omega)) (by omega) (by omega) | exact i32_in (by decide) (by decide)) (by (try simp (disch := omega) only [tS_1, tS_2, tA_1, tA_2, tF_1, tF_2, xl_0, xl_1, xl_2, Nat.reduceEqDiff, ↓reduceIte, nI_add, nI_1, nm_2, nm_3, nm_4, nm_6, nm_7, nm_8, nm_12, nm_16, nm_24, nm_40, nm_180, nm_300, nm_10210, na_0, na_2, na_3, na_4, na_5, na_6, na_7, na_8, nm_p, nm_m, nI_clamp, nI_12]); exact rfl) dX8_isJunk_93 ?_
          refine x_i2l hκ dX8_isJunk_94 ?_
          refine x_lconst (v := 1) hκ dX8_isJunk_95 (by decide) ?_
          refine x_ladd hκ dX8_isJunk_96 ?_
          refine x_lmul hκ dX8_isJunk_97 ?_
          refine x_lmul hκ dX8_isJunk_98 ?_
          refine x_lstore hκ dX8_isJunk_99 (by rw [hL]; decide) rfl ?_
          refine x_iincN (y := 1) hκ dX8_isJunk_101 (by decide) rfl (by rw [hL]; decide) rfl (by (try simp (disch := omega) only [tS_1, tS_2, tA_1, tA_2, tF_1, tF_2, xl_0, xl_1, xl_2, Nat.reduceEqDiff, ↓reduceIte, nI_add, nI_1, nm_2, nm_3, nm_4, nm_6, nm_7, nm_8, nm_12, nm_16, nm_24, nm_40, nm_180, nm_300, nm_10210, na_0, na_2, na_3, na_4, na_5, na_6, na_7, na_8, nm_p, nm_m, nI_clamp, nI_12]); exact rfl) ?_
          refine x_goto (tgt := 24) hκ dX8_isJunk_104 (by decide) ?_
          have q := ih (i + 1) (by omega) (by omega)
          rw [jA, jB, if_pos c43, if_pos c43] at q
          exact q
  refine x_aload_n hκ dX8_isJunk_0 rfl ?_
  refine t_getA hκ fl8_57 (by decide) (by decide) rfl dX8_isJunk_1 ?_
  refine x_iconst (v := 0) hκ dX8_isJunk_4 (by decide) ?_
  refine t_iald (n := 2) hκ hθ (by decide) rfl rfl (by first | ((with_reducible refine vp_in_nI ?_ ?_) <;> omega) | exact i32_in (by omega) (by omega) | exact i32_in' (by simp only [Int32.toInt_add, Int32.toInt_mul, Int32.toInt_sub, Int32.reduceToInt, Int.bmod_add_bmod, Int.bmod_sub_bmod, Int.add_bmod_bmod, Int.sub_bmod_bmod, Int.bmod_mul_bmod, Int.mul_bmod_bmod]; exact i32_bm (by omega) (by omega)) (by omega) (by omega) | exact i32_in (by decide) (by decide)) (by (try simp (disch := omega) only [tS_1, tS_2, tA_1, tA_2, tF_1, tF_2, xl_0, xl_1, xl_2, Nat.reduceEqDiff, ↓reduceIte, nI_add, nI_1, nm_2, nm_3, nm_4, nm_6, nm_7, nm_8, nm_12, nm_16, nm_24, nm_40, nm_180, nm_300, nm_10210, na_0, na_2, na_3, na_4, na_5, na_6, na_7, na_8, nm_p, nm_m, nI_clamp]); exact rfl) dX8_isJunk_5 ?_
  refine x_i2l hκ dX8_isJunk_6 ?_
  refine x_lconst (v := 1) hκ dX8_isJunk_7 (by decide) ?_
  refine x_ladd hκ dX8_isJunk_8 ?_
  refine x_lstore_n hκ dX8_isJunk_9 (by rw [hL]; decide) rfl ?_
  refine x_aload_n hκ dX8_isJunk_10 rfl ?_
  refine t_getA hκ fl8_57 (by decide) (by decide) rfl dX8_isJunk_11 ?_
  refine x_iconst (v := 1) hκ dX8_isJunk_14 (by decide) ?_
  refine t_iald (n := 2) hκ hθ (by decide) rfl rfl (by first | ((with_reducible refine vp_in_nI ?_ ?_) <;> omega) | exact i32_in (by omega) (by omega) | exact i32_in' (by simp only [Int32.toInt_add, Int32.toInt_mul, Int32.toInt_sub, Int32.reduceToInt, Int.bmod_add_bmod, Int.bmod_sub_bmod, Int.add_bmod_bmod, Int.sub_bmod_bmod, Int.bmod_mul_bmod, Int.mul_bmod_bmod]; exact i32_bm (by omega) (by omega)) (by omega) (by omega) | exact i32_in (by decide) (by decide)) (by (try simp (disch := omega) only [tS_1, tS_2, tA_1, tA_2, tF_1, tF_2, xl_0, xl_1, xl_2, Nat.reduceEqDiff, ↓reduceIte, nI_add, nI_1, nm_2, nm_3, nm_4, nm_6, nm_7, nm_8, nm_12, nm_16, nm_24, nm_40, nm_180, nm_300, nm_10210, na_0, na_2, na_3, na_4, na_5, na_6, na_7, na_8, nm_p, nm_m, nI_clamp]); exact rfl) dX8_isJunk_15 ?_
  refine x_i2l hκ dX8_isJunk_16 ?_
  refine x_lconst (v := 1) hκ dX8_isJunk_17 (by decide) ?_
  refine x_ladd hκ dX8_isJunk_18 ?_
  refine x_lstore hκ dX8_isJunk_19 (by rw [hL]; decide) rfl ?_
  refine x_iconst (v := 0) hκ dX8_isJunk_21 (by decide) ?_
  refine x_istore hκ dX8_isJunk_22 (by rw [hL]; decide) rfl ?_
  exact loop 13 0 (by omega) (by omega)
