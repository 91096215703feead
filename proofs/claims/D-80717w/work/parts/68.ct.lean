theorem wX0_405 : GoodIn lw_all (wsV RX0 405 RX0 yX0_rootOf (ws_ yX0_rootOf cX0_rootOf 6 (some .int))) := lw_V q989 q991 qs28 q69 q992
theorem aX0_rootOf : yX0_rootOf.cls = RX0 ∧ yX0_rootOf.cls ≠ "java/lang/invoke/MethodHandle" ∧ yX0_rootOf.cls ≠ "java/lang/invoke/VarHandle" ∧ (parseMethodDescriptor yX0_rootOf.desc).map (fun d => d.parameters.length) = some 1 := by decide +kernel
/-! the component: threads -/
theorem mX0_rootOf {E : gE} {L : Nat → Nat} {γ : Gh} {σ : TS} {s : CSt} (h : CW E L γ σ s) (hid : ∀ k, k < vN γ → 0 ≤ (σ.2 31 k).toInt) {l : Nat} (hl : l < vN γ) : CMg E s yX0_rootOf cX0_rootOf 6 (some .int) 4 0 0 [.ref (L 0), .int (nI l)] (qI (fun r s' => r = nI (rR (σ.2 31) (σ.2 32) 300 l) ∧ s' = s)) := by
  have hN := h.l.2.1
  refine CMg.of (by decide) (Nat.le_of_ble_eq_true rfl) ?_
  rintro κ rfl hL hκ hr
  have outer : ∀ (n k : Nat) (o4 o5 : Option Value), k < n → k < vN γ → rR (σ.2 31) (σ.2 32) n k = rR (σ.2 31) (σ.2 32) 300 l → X κ (sG (kE κ) s) 0 0 4 [some (.ref (L 0)), some (.int (nI l)), some (.int (nI k)), some (.int 1), o4, o5] [] := by
    intro n
    induction n with
    | zero => intro k o4 o5 h1; exact absurd h1 (Nat.not_lt_zero _)
    | succ n ih =>
      intro k o4 o5 hk hk2 he
      have hn := nI_toInt (n := k) (by omega)
      obtain ⟨l1, l2, l3, l4⟩ := h.lt hk2
      have inner : ∀ (f j : Nat), j ≤ k → k - j < f → (∀ i, i < j → ¬ σ.2 31 i = σ.2 32 k) → X κ (sG (kE κ) s) 0 0 29 [some (.ref (L 0)), some (.int (nI l)), some (.int (nI k)), some (.int 1), some (.int (nI j)), some (.int (σ.2 32 k))] [] := by
        intro f
        induction f with
        | zero => intro j h1 h2; exact absurd h2 (Nat.not_lt_zero _)
        | succ f ih2 =>
          intro j hj hf hq
          have hm := nI_toInt (n := j) (by omega)
          have hnext : ¬ σ.2 31 j = σ.2 32 k → j < k → X κ (sG (kE κ) s) 0 0 29 [some (.ref (L 0)), some (.int (nI l)), some (.int (nI k)), some (.int 1), some (.int (nI (j + 1))), some (.int (σ.2 32 k))] [] := fun hne hlt => ih2 (j + 1) (by omega) (by omega) (fun i hi => by rcases (by omega : i < j ∨ i = j) with z | z; exact hq i z; rw [z]; exact hne)
          have hend : (j = k ∨ (j < k ∧ σ.2 31 j = σ.2 32 k)) → X κ (sG (kE κ) s) 0 0 68 [some (.ref (L 0)), some (.int (nI l)), some (.int (nI k)), some (.int 1), some (.int (nI j)), some (.int (σ.2 32 k))] [] := by
            rintro (rfl | ⟨z1, z2⟩)
            · have hz : rR (σ.2 31) (σ.2 32) (n + 1) j = j := by rw [rR, rf_none j hq, if_neg (by omega)]
              rw [hz] at he
              refine x_iload hκ dX0_rootOf_68 rfl ?_
              refine x_iload_n hκ dX0_rootOf_70 rfl ?_
              refine x_icmp_ge (tgt := 78) hκ dX0_rootOf_71 (by decide) (fun c71 => ?_) (fun c71 => ?_)
              · -- X0_rootOf 71T
                have i71 := c71
                simp (disch := omega) only [i32_lt, i32_le, i32_eq, Int32.reduceToInt, nI_toInt] at i71
                refine x_iconst (v := 0) hκ dX0_rootOf_78 (by decide) ?_
                refine x_istore_n hκ dX0_rootOf_79 (by rw [hL]; decide) rfl ?_
                refine x_iload hκ dX0_rootOf_80 rfl ?_
                refine x_istore_n hκ dX0_rootOf_82 (by rw [hL]; decide) rfl ?_
                refine x_goto (tgt := 4) hκ dX0_rootOf_83 (by decide) ?_
                refine x_iload_n hκ dX0_rootOf_4 rfl ?_
                refine x_if_eq (tgt := 86) hκ dX0_rootOf_5 (by decide) (fun c5 => ?_) (fun c5 => ?_)
                · -- X0_rootOf 5T
                  have i5 := c5
                  simp (disch := omega) only [i32_lt, i32_le, i32_eq, Int32.reduceToInt, nI_toInt] at i5
                  refine x_iload_n hκ dX0_rootOf_86 rfl ?_
                  refine c_reti hκ hr dX0_rootOf_87 ?_
                  exact ⟨by rw [← he], rfl⟩
                · -- X0_rootOf 5F
                  have i5 := c5
                  simp (disch := omega) only [i32_lt, i32_le, i32_eq, Int32.reduceToInt, nI_toInt] at i5
                  exact absurd rfl c5
              · -- X0_rootOf 71F
                have i71 := c71
                simp (disch := omega) only [i32_lt, i32_le, i32_eq, Int32.reduceToInt, nI_toInt] at i71
                omega
            · have hz : rf (σ.2 31) (σ.2 32 k) k = j := rf_at hq z2 k (by omega)
              rw [rR, hz, if_pos (by omega)] at he
              refine x_iload hκ dX0_rootOf_68 rfl ?_
              refine x_iload_n hκ dX0_rootOf_70 rfl ?_
              refine x_icmp_ge (tgt := 78) hκ dX0_rootOf_71 (by decide) (fun c71 => ?_) (fun c71 => ?_)
              · -- X0_rootOf 71T
                have i71 := c71
                simp (disch := omega) only [i32_lt, i32_le, i32_eq, Int32.reduceToInt, nI_toInt] at i71
                omega
              · -- X0_rootOf 71F
                have i71 := c71
                simp (disch := omega) only [i32_lt, i32_le, i32_eq, Int32.reduceToInt, nI_toInt] at i71
                refine x_iconst (v := 1) hκ dX0_rootOf_74 (by decide) ?_
                refine x_goto (tgt := 79) hκ dX0_rootOf_75 (by decide) ?_
                refine x_istore_n hκ dX0_rootOf_79 (by rw [hL]; decide) rfl ?_
                refine x_iload hκ dX0_rootOf_80 rfl ?_
                refine x_istore_n hκ dX0_rootOf_82 (by rw [hL]; decide) rfl ?_
                refine x_goto (tgt := 4) hκ dX0_rootOf_83 (by decide) ?_
                exact ih j _ _ (by omega) (by omega) he
          refine x_iload hκ dX0_rootOf_29 rfl ?_
          refine x_iload_n hκ dX0_rootOf_31 rfl ?_
          refine x_icmp_ge (tgt := 68) hκ dX0_rootOf_32 (by decide) (fun c32 => ?_) (fun c32 => ?_)
          · -- X0_rootOf 32T
            have i32 := c32
            simp (disch := omega) only [i32_lt, i32_le, i32_eq, Int32.reduceToInt, nI_toInt] at i32
            exact hend (Or.inl (by omega))
          · -- X0_rootOf 32F
            have i32 := c32
            simp (disch := omega) only [i32_lt, i32_le, i32_eq, Int32.reduceToInt, nI_toInt] at i32
            refine x_iload hκ dX0_rootOf_35 rfl ?_
            refine x_if_lt (tgt := 62) hκ dX0_rootOf_37 (by decide) (fun c37 => ?_) (fun c37 => ?_)
            · -- X0_rootOf 37T
              have i37 := c37
              simp (disch := omega) only [i32_lt, i32_le, i32_eq, Int32.reduceToInt, nI_toInt] at i37
              refine x_iincN (y := 1) hκ dX0_rootOf_62 (by decide) rfl (by rw [hL]; decide) rfl (by (try simp (disch := omega) only [oS_k, oS_o, oS_a, oS_f, oS_n, aS_k, aS_o, aS_a, aS_f, aS_n, fS_k, fS_o, fS_a, fS_f, fS_n, nO_k, nO_o, nO_a, nA_k, nA_o, nA_a, nA_f, nA_n, nF_k, nF_o, nF_a, nF_f, nF_n, Nat.reduceEqDiff, ↓reduceIte, and_true, true_and, and_false, false_and, reduceCtorEq, xl_0, xl_1, xl_2, nI_add, nI_1, nm_2, nm_3, nm_4, nm_6, nm_7, nm_8, nm_12, nm_16, na_0, na_2, na_3, na_4, na_5, na_6, na_7, na_8, nm_p, nm_m, nI_clamp]); first | exact h.sc.o (by decide) rfl | exact h.sc.ob1 (by omega) | exact h.sc.ob2 (by omega) | exact h.sc.ob3 (by omega) | exact h.sc.ot (by omega) | exact h.sc.fb (by omega) | exact h.sc.ft (by omega) (by omega) | exact h.sc.fs (by omega) | exact h.p.1 | exact h.p.2.2.2.2.1 | exact h.p.2.2.2.2.2.1 | exact h.p.2.2.2.2.2.2.1 | exact h.p.2.2.2.2.2.2.2.1 | exact h.p.2.2.2.2.2.2.2.2.1 | exact rfl) ?_
              refine x_goto (tgt := 29) hκ dX0_rootOf_65 (by decide) ?_
              exact hnext (fun z => by have := hid j (by omega); rw [z] at this; omega) (by omega)
            · -- X0_rootOf 37F
              have i37 := c37
              simp (disch := omega) only [i32_lt, i32_le, i32_eq, Int32.reduceToInt, nI_toInt] at i37
              refine x_aload_n hκ dX0_rootOf_40 rfl ?_
              refine c_get hκ kX0 (by (try simp (disch := omega) only [oS_k, oS_o, oS_a, oS_f, oS_n, aS_k, aS_o, aS_a, aS_f, aS_n, fS_k, fS_o, fS_a, fS_f, fS_n, nO_k, nO_o, nO_a, nA_k, nA_o, nA_a, nA_f, nA_n, nF_k, nF_o, nF_a, nF_f, nF_n, Nat.reduceEqDiff, ↓reduceIte, and_true, true_and, and_false, false_and, reduceCtorEq, xl_0, xl_1, xl_2, nI_add, nI_1, nm_2, nm_3, nm_4, nm_6, nm_7, nm_8, nm_12, nm_16, na_0, na_2, na_3, na_4, na_5, na_6, na_7, na_8, nm_p, nm_m, nI_clamp]); first | done | assumption | exact h.sc.k (by decide) | exact h.sc.kb (by omega) | exact h.sc.kbt (by omega) | exact h.sc.kbh (by omega) | exact h.sc.kba (by omega) | exact h.sc.kt (by omega) | exact h.sc.ktl (by omega) | exact h.sc.ks (by omega) | rfl) 0 (by decide) (Or.inl q629) rfl (by (try simp (disch := omega) only [oS_k, oS_o, oS_a, oS_f, oS_n, aS_k, aS_o, aS_a, aS_f, aS_n, fS_k, fS_o, fS_a, fS_f, fS_n, nO_k, nO_o, nO_a, nA_k, nA_o, nA_a, nA_f, nA_n, nF_k, nF_o, nF_a, nF_f, nF_n, Nat.reduceEqDiff, ↓reduceIte, and_true, true_and, and_false, false_and, reduceCtorEq, xl_0, xl_1, xl_2, nI_add, nI_1, nm_2, nm_3, nm_4, nm_6, nm_7, nm_8, nm_12, nm_16, na_0, na_2, na_3, na_4, na_5, na_6, na_7, na_8, nm_p, nm_m, nI_clamp]); first | exact h.sc.o (by decide) rfl | exact h.sc.ob1 (by omega) | exact h.sc.ob2 (by omega) | exact h.sc.ob3 (by omega) | exact h.sc.ot (by omega) | exact h.sc.fb (by omega) | exact h.sc.ft (by omega) (by omega) | exact h.sc.fs (by omega) | exact h.p.1 | exact h.p.2.2.2.2.1 | exact h.p.2.2.2.2.2.1 | exact h.p.2.2.2.2.2.2.1 | exact h.p.2.2.2.2.2.2.2.1 | exact h.p.2.2.2.2.2.2.2.2.1 | exact rfl) dX0_rootOf_41 ?_
              refine x_iload hκ dX0_rootOf_44 rfl ?_
              have hjN : j < vN γ := by omega
              refine c_callF  hκ (mJ2_get h.aL hjN) (by omega) (by decide) vX0_105_J2 fJ2_get kJ2 (by (try simp (disch := omega) only [oS_k, oS_o, oS_a, oS_f, oS_n, aS_k, aS_o, aS_a, aS_f, aS_n, fS_k, fS_o, fS_a, fS_f, fS_n, nO_k, nO_o, nO_a, nA_k, nA_o, nA_a, nA_f, nA_n, nF_k, nF_o, nF_a, nF_f, nF_n, Nat.reduceEqDiff, ↓reduceIte, and_true, true_and, and_false, false_and, reduceCtorEq, xl_0, xl_1, xl_2, nI_add, nI_1, nm_2, nm_3, nm_4, nm_6, nm_7, nm_8, nm_12, nm_16, na_0, na_2, na_3, na_4, na_5, na_6, na_7, na_8, nm_p, nm_m, nI_clamp]); first | done | assumption | exact h.sc.k (by decide) | exact h.sc.kb (by omega) | exact h.sc.kbt (by omega) | exact h.sc.kbh (by omega) | exact h.sc.kba (by omega) | exact h.sc.kt (by omega) | exact h.sc.ktl (by omega) | exact h.sc.ks (by omega) | rfl) rfl (Nat.le_of_ble_eq_true rfl) dX0_rootOf_46 (jRr (fun r46 h46 => ?_))
              subst h46
              refine c_cast hκ kX16 (by exact (h.lt hjN).1) q559 dX0_rootOf_51 ?_
              refine c_get hκ kX16 (by exact (h.lt hjN).1) 6 (by decide) (Or.inr ⟨_, q761⟩) rfl (by exact ((h.lt hjN).2.2.2 6 (by decide) (by decide))) dX0_rootOf_54 ?_
              refine x_iload hκ dX0_rootOf_57 rfl ?_
              refine x_icmp_eq (tgt := 68) hκ dX0_rootOf_59 (by decide) (fun c59 => ?_) (fun c59 => ?_)
              · -- X0_rootOf 59T
                have i59 := c59
                simp (disch := omega) only [i32_lt, i32_le, i32_eq, Int32.reduceToInt, nI_toInt] at i59
                exact hend (Or.inr ⟨by omega, c59⟩)
              · -- X0_rootOf 59F
                have i59 := c59
                simp (disch := omega) only [i32_lt, i32_le, i32_eq, Int32.reduceToInt, nI_toInt] at i59
                refine x_iincN (y := 1) hκ dX0_rootOf_62 (by decide) rfl (by rw [hL]; decide) rfl (by (try simp (disch := omega) only [oS_k, oS_o, oS_a, oS_f, oS_n, aS_k, aS_o, aS_a, aS_f, aS_n, fS_k, fS_o, fS_a, fS_f, fS_n, nO_k, nO_o, nO_a, nA_k, nA_o, nA_a, nA_f, nA_n, nF_k, nF_o, nF_a, nF_f, nF_n, Nat.reduceEqDiff, ↓reduceIte, and_true, true_and, and_false, false_and, reduceCtorEq, xl_0, xl_1, xl_2, nI_add, nI_1, nm_2, nm_3, nm_4, nm_6, nm_7, nm_8, nm_12, nm_16, na_0, na_2, na_3, na_4, na_5, na_6, na_7, na_8, nm_p, nm_m, nI_clamp]); first | exact h.sc.o (by decide) rfl | exact h.sc.ob1 (by omega) | exact h.sc.ob2 (by omega) | exact h.sc.ob3 (by omega) | exact h.sc.ot (by omega) | exact h.sc.fb (by omega) | exact h.sc.ft (by omega) (by omega) | exact h.sc.fs (by omega) | exact h.p.1 | exact h.p.2.2.2.2.1 | exact h.p.2.2.2.2.2.1 | exact h.p.2.2.2.2.2.2.1 | exact h.p.2.2.2.2.2.2.2.1 | exact h.p.2.2.2.2.2.2.2.2.1 | exact rfl) ?_
                refine x_goto (tgt := 29) hκ dX0_rootOf_65 (by decide) ?_
                exact hnext c59 (by omega)
      refine x_iload_n hκ dX0_rootOf_4 rfl ?_
      refine x_if_eq (tgt := 86) hκ dX0_rootOf_5 (by decide) (fun c5 => ?_) (fun c5 => ?_)
      · -- X0_rootOf 5T
        have i5 := c5
        simp (disch := omega) only [i32_lt, i32_le, i32_eq, Int32.reduceToInt, nI_toInt] at i5
        exact absurd c5 (by decide)
      · -- X0_rootOf 5F
        have i5 := c5
        simp (disch := omega) only [i32_lt, i32_le, i32_eq, Int32.reduceToInt, nI_toInt] at i5
        refine x_iconst (v := 0) hκ dX0_rootOf_8 (by decide) ?_
        refine x_istore hκ dX0_rootOf_9 (by rw [hL]; decide) rfl ?_
        refine x_aload_n hκ dX0_rootOf_11 rfl ?_
        refine c_get hκ kX0 (by (try simp (disch := omega) only [oS_k, oS_o, oS_a, oS_f, oS_n, aS_k, aS_o, aS_a, aS_f, aS_n, fS_k, fS_o, fS_a, fS_f, fS_n, nO_k, nO_o, nO_a, nA_k, nA_o, nA_a, nA_f, nA_n, nF_k, nF_o, nF_a, nF_f, nF_n, Nat.reduceEqDiff, ↓reduceIte, and_true, true_and, and_false, false_and, reduceCtorEq, xl_0, xl_1, xl_2, nI_add, nI_1, nm_2, nm_3, nm_4, nm_6, nm_7, nm_8, nm_12, nm_16, na_0, na_2, na_3, na_4, na_5, na_6, na_7, na_8, nm_p, nm_m, nI_clamp]); first | done | assumption | exact h.sc.k (by decide) | exact h.sc.kb (by omega) | exact h.sc.kbt (by omega) | exact h.sc.kbh (by omega) | exact h.sc.kba (by omega) | exact h.sc.kt (by omega) | exact h.sc.ktl (by omega) | exact h.sc.ks (by omega) | rfl) 0 (by decide) (Or.inl q629) rfl (by (try simp (disch := omega) only [oS_k, oS_o, oS_a, oS_f, oS_n, aS_k, aS_o, aS_a, aS_f, aS_n, fS_k, fS_o, fS_a, fS_f, fS_n, nO_k, nO_o, nO_a, nA_k, nA_o, nA_a, nA_f, nA_n, nF_k, nF_o, nF_a, nF_f, nF_n, Nat.reduceEqDiff, ↓reduceIte, and_true, true_and, and_false, false_and, reduceCtorEq, xl_0, xl_1, xl_2, nI_add, nI_1, nm_2, nm_3, nm_4, nm_6, nm_7, nm_8, nm_12, nm_16, na_0, na_2, na_3, na_4, na_5, na_6, na_7, na_8, nm_p, nm_m, nI_clamp]); first | exact h.sc.o (by decide) rfl | exact h.sc.ob1 (by omega) | exact h.sc.ob2 (by omega) | exact h.sc.ob3 (by omega) | exact h.sc.ot (by omega) | exact h.sc.fb (by omega) | exact h.sc.ft (by omega) (by omega) | exact h.sc.fs (by omega) | exact h.p.1 | exact h.p.2.2.2.2.1 | exact h.p.2.2.2.2.2.1 | exact h.p.2.2.2.2.2.2.1 | exact h.p.2.2.2.2.2.2.2.1 | exact h.p.2.2.2.2.2.2.2.2.1 | exact rfl) dX0_rootOf_12 ?_
        refine x_iload_n hκ dX0_rootOf_15 rfl ?_
        refine c_callF  hκ (mJ2_get h.aL hk2) (by omega) (by decide) vX0_105_J2 fJ2_get kJ2 (by (try simp (disch := omega) only [oS_k, oS_o, oS_a, oS_f, oS_n, aS_k, aS_o, aS_a, aS_f, aS_n, fS_k, fS_o, fS_a, fS_f, fS_n, nO_k, nO_o, nO_a, nA_k, nA_o, nA_a, nA_f, nA_n, nF_k, nF_o, nF_a, nF_f, nF_n, Nat.reduceEqDiff, ↓reduceIte, and_true, true_and, and_false, false_and, reduceCtorEq, xl_0, xl_1, xl_2, nI_add, nI_1, nm_2, nm_3, nm_4, nm_6, nm_7, nm_8, nm_12, nm_16, na_0, na_2, na_3, na_4, na_5, na_6, na_7, na_8, nm_p, nm_m, nI_clamp]); first | done | assumption | exact h.sc.k (by decide) | exact h.sc.kb (by omega) | exact h.sc.kbt (by omega) | exact h.sc.kbh (by omega) | exact h.sc.kba (by omega) | exact h.sc.kt (by omega) | exact h.sc.ktl (by omega) | exact h.sc.ks (by omega) | rfl) rfl (Nat.le_of_ble_eq_true rfl) dX0_rootOf_16 (jRr (fun r16 h16 => ?_))
        subst h16
        refine c_cast hκ kX16 (by exact l1) q559 dX0_rootOf_21 ?_
        refine c_get hκ kX16 (by exact l1) 7 (by decide) (Or.inr ⟨_, q764⟩) rfl (by exact (l4 7 (by decide) (by decide))) dX0_rootOf_24 ?_
        refine x_istore hκ dX0_rootOf_27 (by rw [hL]; decide) rfl ?_
        exact inner (k + 1) 0 (by omega) (by omega) (fun i hi => absurd hi (Nat.not_lt_zero _))
  refine x_iload_n hκ dX0_rootOf_0 rfl ?_
  refine x_istore_n hκ dX0_rootOf_1 (by rw [hL]; decide) rfl ?_
  refine x_iconst (v := 1) hκ dX0_rootOf_2 (by decide) ?_
  refine x_istore_n hκ dX0_rootOf_3 (by rw [hL]; decide) rfl ?_
  exact outer 300 l none none (by omega) hl rfl
theorem rC_0 {ids refs : Nat → Int32} {r : Nat} : ∀ k, k ≤ r → rC ids refs r k = 0
  | 0, _ => rfl
  | k + 1, h => by
    rw [rC, rC_0 k (by omega), if_neg]
    have := rR_le (ids := ids) (refs := refs) 300 k
    omega
theorem oX0_thread {E : gE} {L : Nat → Nat} {γ : Gh} {σ : TS} {s : CSt} (h : CW E L γ σ s) (hid : ∀ k, k < vN γ → 0 ≤ (σ.2 31 k).toInt) {l : Int32} {r2 : Int32} {σ2 : TS} (h2 : (r2 = if 0 ≤ l.toInt ∧ l.toInt < (σ.1 25).toInt then nI (rC (σ.2 31) (σ.2 32) (rR (σ.2 31) (σ.2 32) 300 (Int32.toNatClampNeg l)) (Int32.toNatClampNeg (σ.1 25))) else -1) ∧ σ2 = σ) : CMg E s yX0_thread cX0_thread 5 (some .int) 5 0 0 [.ref (L 0), .int l] (cQ E L r2 σ2) := by
  have hN := h.l.2.1
  have h25 := h.l.1
  have h25i : (σ.1 25).toInt = vN γ := by rw [h25, nI_toInt (by omega)]
  obtain ⟨rfl, rfl⟩ := h2
  refine CMg.of (by decide) (Nat.le_of_ble_eq_true rfl) ?_
  rintro κ rfl hL hκ hr
  refine x_iload_n hκ dX0_thread_0 rfl ?_
  refine x_iconst (v := 0) hκ dX0_thread_1 (by decide) ?_
  refine x_aload_n hκ dX0_thread_2 rfl ?_
  refine c_get hκ kX0 (by (try simp (disch := omega) only [oS_k, oS_o, oS_a, oS_f, oS_n, aS_k, aS_o, aS_a, aS_f, aS_n, fS_k, fS_o, fS_a, fS_f, fS_n, nO_k, nO_o, nO_a, nA_k, nA_o, nA_a, nA_f, nA_n, nF_k, nF_o, nF_a, nF_f, nF_n, Nat.reduceEqDiff, ↓reduceIte, and_true, true_and, and_false, false_and, reduceCtorEq, xl_0, xl_1, xl_2, nI_add, nI_1, nm_2, nm_3, nm_4, nm_6, nm_7, nm_8, nm_12, nm_16, na_0, na_2, na_3, na_4, na_5, na_6, na_7, na_8, nm_p, nm_m, nI_clamp]); first | done | assumption | exact h.sc.k (by decide) | exact h.sc.kb (by omega) | exact h.sc.kbt (by omega) | exact h.sc.kbh (by omega) | exact h.sc.kba (by omega) | exact h.sc.kt (by omega) | exact h.sc.ktl (by omega) | exact h.sc.ks (by omega) | rfl) 0 (by decide) (Or.inl q629) rfl (by (try simp (disch := omega) only [oS_k, oS_o, oS_a, oS_f, oS_n, aS_k, aS_o, aS_a, aS_f, aS_n, fS_k, fS_o, fS_a, fS_f, fS_n, nO_k, nO_o, nO_a, nA_k, nA_o, nA_a, nA_f, nA_n, nF_k, nF_o, nF_a, nF_f, nF_n, Nat.reduceEqDiff, ↓reduceIte, and_true, true_and, and_false, false_and, reduceCtorEq, xl_0, xl_1, xl_2, nI_add, nI_1, nm_2, nm_3, nm_4, nm_6, nm_7, nm_8, nm_12, nm_16, na_0, na_2, na_3, na_4, na_5, na_6, na_7, na_8, nm_p, nm_m, nI_clamp]); first | exact h.sc.o (by decide) rfl | exact h.sc.ob1 (by omega) | exact h.sc.ob2 (by omega) | exact h.sc.ob3 (by omega) | exact h.sc.ot (by omega) | exact h.sc.fb (by omega) | exact h.sc.ft (by omega) (by omega) | exact h.sc.fs (by omega) | exact h.p.1 | exact h.p.2.2.2.2.1 | exact h.p.2.2.2.2.2.1 | exact h.p.2.2.2.2.2.2.1 | exact h.p.2.2.2.2.2.2.2.1 | exact h.p.2.2.2.2.2.2.2.2.1 | exact rfl) dX0_thread_3 ?_
  refine c_callF  hκ (mJ2_size h.aL) (by omega) (by decide) vX0_100_J2 fJ2_size kJ2 (by (try simp (disch := omega) only [oS_k, oS_o, oS_a, oS_f, oS_n, aS_k, aS_o, aS_a, aS_f, aS_n, fS_k, fS_o, fS_a, fS_f, fS_n, nO_k, nO_o, nO_a, nA_k, nA_o, nA_a, nA_f, nA_n, nF_k, nF_o, nF_a, nF_f, nF_n, Nat.reduceEqDiff, ↓reduceIte, and_true, true_and, and_false, false_and, reduceCtorEq, xl_0, xl_1, xl_2, nI_add, nI_1, nm_2, nm_3, nm_4, nm_6, nm_7, nm_8, nm_12, nm_16, na_0, na_2, na_3, na_4, na_5, na_6, na_7, na_8, nm_p, nm_m, nI_clamp]); first | done | assumption | exact h.sc.k (by decide) | exact h.sc.kb (by omega) | exact h.sc.kbt (by omega) | exact h.sc.kbh (by omega) | exact h.sc.kba (by omega) | exact h.sc.kt (by omega) | exact h.sc.ktl (by omega) | exact h.sc.ks (by omega) | rfl) rfl (Nat.le_of_ble_eq_true rfl) dX0_thread_6 (jIr (fun r6 h6 => ?_))
  subst h6
  refine x_iconst (v := 1) hκ dX0_thread_11 (by decide) ?_
  refine x_isub hκ dX0_thread_12 ?_
  refine x_callSi hκ mX0_isIn (by omega) (by decide) wX0_3 aX0_isIn rfl (Nat.le_of_ble_eq_true rfl) dX0_thread_13 (fun r13 h13 => ?_)
  have e13 : (nI (vN γ) - 1).toInt = (vN γ : Int) - 1 := by rw [i32_sub (by rw [nI_toInt (by omega)]; show _ ≤ _ - (1 : Int); omega) (by rw [nI_toInt (by omega)]; show _ - (1 : Int) < _; omega), nI_toInt (by omega)]; rfl
  rw [e13] at h13
  refine x_if_ne (tgt := 21) hκ dX0_thread_16 (by decide) (fun c16 => ?_) (fun c16 => ?_)
  · -- X0_thread 16T
    have i16 := h13.t c16
    try simp only [Int32.reduceToInt] at i16
    obtain ⟨M, hM, rfl, -⟩ := i32_nat i16
    have hMM : M < vN γ := by omega
    refine x_aload_n hκ dX0_thread_21 rfl ?_
    refine x_iload_n hκ dX0_thread_22 rfl ?_
    refine c_callV  hκ (mX0_rootOf h hid hMM) (by omega) (by decide) wX0_405 aX0_rootOf kX0 (by (try simp (disch := omega) only [oS_k, oS_o, oS_a, oS_f, oS_n, aS_k, aS_o, aS_a, aS_f, aS_n, fS_k, fS_o, fS_a, fS_f, fS_n, nO_k, nO_o, nO_a, nA_k, nA_o, nA_a, nA_f, nA_n, nF_k, nF_o, nF_a, nF_f, nF_n, Nat.reduceEqDiff, ↓reduceIte, and_true, true_and, and_false, false_and, reduceCtorEq, xl_0, xl_1, xl_2, nI_add, nI_1, nm_2, nm_3, nm_4, nm_6, nm_7, nm_8, nm_12, nm_16, na_0, na_2, na_3, na_4, na_5, na_6, na_7, na_8, nm_p, nm_m, nI_clamp]); first | done | assumption | exact h.sc.k (by decide) | exact h.sc.kb (by omega) | exact h.sc.kbt (by omega) | exact h.sc.kbh (by omega) | exact h.sc.kba (by omega) | exact h.sc.kt (by omega) | exact h.sc.ktl (by omega) | exact h.sc.ks (by omega) | rfl) rfl (Nat.le_of_ble_eq_true rfl) dX0_thread_23 (jIr (fun r23 h23 => ?_))
    subst h23
    have hle := rR_le (ids := σ2.2 31) (refs := σ2.2 32) 300 M
    have hfin : (if 0 ≤ (nI M).toInt ∧ (nI M).toInt < (σ2.1 25).toInt then nI (rC (σ2.2 31) (σ2.2 32) (rR (σ2.2 31) (σ2.2 32) 300 (Int32.toNatClampNeg (nI M))) (Int32.toNatClampNeg (σ2.1 25))) else -1) = nI (rC (σ2.2 31) (σ2.2 32) (rR (σ2.2 31) (σ2.2 32) 300 M) (vN γ)) := by
      rw [if_pos (by rw [nI_toInt (by omega)]; omega), nI_clamp (by omega), show Int32.toNatClampNeg (σ2.1 25) = vN γ from by rw [i32_cl, h25i]; rfl]
    rw [hfin] at hr
    have loop : ∀ (k j : Nat), rR (σ2.2 31) (σ2.2 32) 300 M ≤ j → j + k = vN γ → X κ (sG (kE κ) s) 0 0 32 [some (.ref (L 0)), some (.int (nI M)), some (.int (nI (rR (σ2.2 31) (σ2.2 32) 300 M))), some (.int (nI (rC (σ2.2 31) (σ2.2 32) (rR (σ2.2 31) (σ2.2 32) 300 M) j))), some (.int (nI j))] [] := by
      intro k
      induction k with
      | zero =>
        intro j h1 h2
        refine x_iload hκ dX0_thread_32 rfl ?_
        refine x_aload_n hκ dX0_thread_34 rfl ?_
        refine c_get hκ kX0 (by (try simp (disch := omega) only [oS_k, oS_o, oS_a, oS_f, oS_n, aS_k, aS_o, aS_a, aS_f, aS_n, fS_k, fS_o, fS_a, fS_f, fS_n, nO_k, nO_o, nO_a, nA_k, nA_o, nA_a, nA_f, nA_n, nF_k, nF_o, nF_a, nF_f, nF_n, Nat.reduceEqDiff, ↓reduceIte, and_true, true_and, and_false, false_and, reduceCtorEq, xl_0, xl_1, xl_2, nI_add, nI_1, nm_2, nm_3, nm_4, nm_6, nm_7, nm_8, nm_12, nm_16, na_0, na_2, na_3, na_4, na_5, na_6, na_7, na_8, nm_p, nm_m, nI_clamp]); first | done | assumption | exact h.sc.k (by decide) | exact h.sc.kb (by omega) | exact h.sc.kbt (by omega) | exact h.sc.kbh (by omega) | exact h.sc.kba (by omega) | exact h.sc.kt (by omega) | exact h.sc.ktl (by omega) | exact h.sc.ks (by omega) | rfl) 0 (by decide) (Or.inl q629) rfl (by (try simp (disch := omega) only [oS_k, oS_o, oS_a, oS_f, oS_n, aS_k, aS_o, aS_a, aS_f, aS_n, fS_k, fS_o, fS_a, fS_f, fS_n, nO_k, nO_o, nO_a, nA_k, nA_o, nA_a, nA_f, nA_n, nF_k, nF_o, nF_a, nF_f, nF_n, Nat.reduceEqDiff, ↓reduceIte, and_true, true_and, and_false, false_and, reduceCtorEq, xl_0, xl_1, xl_2, nI_add, nI_1, nm_2, nm_3, nm_4, nm_6, nm_7, nm_8, nm_12, nm_16, na_0, na_2, na_3, na_4, na_5, na_6, na_7, na_8, nm_p, nm_m, nI_clamp]); first | exact h.sc.o (by decide) rfl | exact h.sc.ob1 (by omega) | exact h.sc.ob2 (by omega) | exact h.sc.ob3 (by omega) | exact h.sc.ot (by omega) | exact h.sc.fb (by omega) | exact h.sc.ft (by omega) (by omega) | exact h.sc.fs (by omega) | exact h.p.1 | exact h.p.2.2.2.2.1 | exact h.p.2.2.2.2.2.1 | exact h.p.2.2.2.2.2.2.1 | exact h.p.2.2.2.2.2.2.2.1 | exact h.p.2.2.2.2.2.2.2.2.1 | exact rfl) dX0_thread_35 ?_
        refine c_callF  hκ (mJ2_size h.aL) (by omega) (by decide) vX0_100_J2 fJ2_size kJ2 (by (try simp (disch := omega) only [oS_k, oS_o, oS_a, oS_f, oS_n, aS_k, aS_o, aS_a, aS_f, aS_n, fS_k, fS_o, fS_a, fS_f, fS_n, nO_k, nO_o, nO_a, nA_k, nA_o, nA_a, nA_f, nA_n, nF_k, nF_o, nF_a, nF_f, nF_n, Nat.reduceEqDiff, ↓reduceIte, and_true, true_and, and_false, false_and, reduceCtorEq, xl_0, xl_1, xl_2, nI_add, nI_1, nm_2, nm_3, nm_4, nm_6, nm_7, nm_8, nm_12, nm_16, na_0, na_2, na_3, na_4, na_5, na_6, na_7, na_8, nm_p, nm_m, nI_clamp]); first | done | assumption | exact h.sc.k (by decide) | exact h.sc.kb (by omega) | exact h.sc.kbt (by omega) | exact h.sc.kbh (by omega) | exact h.sc.kba (by omega) | exact h.sc.kt (by omega) | exact h.sc.ktl (by omega) | exact h.sc.ks (by omega) | rfl) rfl (Nat.le_of_ble_eq_true rfl) dX0_thread_38 (jIr (fun r38 h38 => ?_))
        subst h38
        refine x_icmp_ge (tgt := 70) hκ dX0_thread_43 (by decide) (fun c43 => ?_) (fun c43 => ?_)
        · -- X0_thread 43T
          have i43 := c43
          simp (disch := omega) only [i32_lt, i32_le, i32_eq, Int32.reduceToInt, nI_toInt] at i43
          refine x_iload_n hκ dX0_thread_70 rfl ?_
          refine c_reti hκ hr dX0_thread_71 ?_
          obtain rfl : j = vN γ := by omega
          exact ⟨rfl, γ, h⟩
        · -- X0_thread 43F
          have i43 := c43
          simp (disch := omega) only [i32_lt, i32_le, i32_eq, Int32.reduceToInt, nI_toInt] at i43
          omega
      | succ k ih =>
        intro j h1 h2
        have hj : j < vN γ := by omega
        have hm := nI_toInt (n := j) (by omega)
        have q := ih (j + 1) (by omega) (by omega)
        rw [rC] at q
        refine x_iload hκ dX0_thread_32 rfl ?_
        refine x_aload_n hκ dX0_thread_34 rfl ?_
        refine c_get hκ kX0 (by (try simp (disch := omega) only [oS_k, oS_o, oS_a, oS_f, oS_n, aS_k, aS_o, aS_a, aS_f, aS_n, fS_k, fS_o, fS_a, fS_f, fS_n, nO_k, nO_o, nO_a, nA_k, nA_o, nA_a, nA_f, nA_n, nF_k, nF_o, nF_a, nF_f, nF_n, Nat.reduceEqDiff, ↓reduceIte, and_true, true_and, and_false, false_and, reduceCtorEq, xl_0, xl_1, xl_2, nI_add, nI_1, nm_2, nm_3, nm_4, nm_6, nm_7, nm_8, nm_12, nm_16, na_0, na_2, na_3, na_4, na_5, na_6, na_7, na_8, nm_p, nm_m, nI_clamp]); first | done | assumption | exact h.sc.k (by decide) | exact h.sc.kb (by omega) | exact h.sc.kbt (by omega) | exact h.sc.kbh (by omega) | exact h.sc.kba (by omega) | exact h.sc.kt (by omega) | exact h.sc.ktl (by omega) | exact h.sc.ks (by omega) | rfl) 0 (by decide) (Or.inl q629) rfl (by (try simp (disch := omega) only [oS_k, oS_o, oS_a, oS_f, oS_n, aS_k, aS_o, aS_a, aS_f, aS_n, fS_k, fS_o, fS_a, fS_f, fS_n, nO_k, nO_o, nO_a, nA_k, nA_o, nA_a, nA_f, nA_n, nF_k, nF_o, nF_a, nF_f, nF_n, Nat.reduceEqDiff, ↓reduceIte, and_true, true_and, and_false, false_and, reduceCtorEq, xl_0, xl_1, xl_2, nI_add, nI_1, nm_2, nm_3, nm_4, nm_6, nm_7, nm_8, nm_12, nm_16, na_0, na_2, na_3, na_4, na_5, na_6, na_7, na_8, nm_p, nm_m, nI_clamp]); first | exact h.sc.o (by decide) rfl | exact h.sc.ob1 (by omega) | exact h.sc.ob2 (by omega) | exact h.sc.ob3 (by omega) | exact h.sc.ot (by omega) | exact h.sc.fb (by omega) | exact h.sc.ft (by omega) (by omega) | exact h.sc.fs (by omega) | exact h.p.1 | exact h.p.2.2.2.2.1 | exact h.p.2.2.2.2.2.1 | exact h.p.2.2.2.2.2.2.1 | exact h.p.2.2.2.2.2.2.2.1 | exact h.p.2.2.2.2.2.2.2.2.1 | exact rfl) dX0_thread_35 ?_
        refine c_callF  hκ (mJ2_size h.aL) (by omega) (by decide) vX0_100_J2 fJ2_size kJ2 (by (try simp (disch := omega) only [oS_k, oS_o, oS_a, oS_f, oS_n, aS_k, aS_o, aS_a, aS_f, aS_n, fS_k, fS_o, fS_a, fS_f, fS_n, nO_k, nO_o, nO_a, nA_k, nA_o, nA_a, nA_f, nA_n, nF_k, nF_o, nF_a, nF_f, nF_n, Nat.reduceEqDiff, ↓reduceIte, and_true, true_and, and_false, false_and, reduceCtorEq, xl_0, xl_1, xl_2, nI_add, nI_1, nm_2, nm_3, nm_4, nm_6, nm_7, nm_8, nm_12, nm_16, na_0, na_2, na_3, na_4, na_5, na_6, na_7, na_8, nm_p, nm_m, nI_clamp]); first | done | assumption | exact h.sc.k (by decide) | exact h.sc.kb (by omega) | exact h.sc.kbt (by omega) | exact h.sc.kbh (by omega) | exact h.sc.kba (by omega) | exact h.sc.kt (by omega) | exact h.sc.ktl (by omega) | exact h.sc.ks (by omega) | rfl) rfl (Nat.le_of_ble_eq_true rfl) dX0_thread_38 (jIr (fun r38 h38 => ?_))
        subst h38
        refine x_icmp_ge (tgt := 70) hκ dX0_thread_43 (by decide) (fun c43 => ?_) (fun c43 => ?_)
        · -- X0_thread 43T
          have i43 := c43
          simp (disch := omega) only [i32_lt, i32_le, i32_eq, Int32.reduceToInt, nI_toInt] at i43
          omega
        · -- X0_thread 43F
          have i43 := c43
          simp (disch := omega) only [i32_lt, i32_le, i32_eq, Int32.reduceToInt, nI_toInt] at i43
          refine x_iload_n hκ dX0_thread_46 rfl ?_
          refine x_aload_n hκ dX0_thread_47 rfl ?_
          refine x_iload hκ dX0_thread_48 rfl ?_
          refine c_callV  hκ (mX0_rootOf h hid hj) (by omega) (by decide) wX0_405 aX0_rootOf kX0 (by (try simp (disch := omega) only [oS_k, oS_o, oS_a, oS_f, oS_n, aS_k, aS_o, aS_a, aS_f, aS_n, fS_k, fS_o, fS_a, fS_f, fS_n, nO_k, nO_o, nO_a, nA_k, nA_o, nA_a, nA_f, nA_n, nF_k, nF_o, nF_a, nF_f, nF_n, Nat.reduceEqDiff, ↓reduceIte, and_true, true_and, and_false, false_and, reduceCtorEq, xl_0, xl_1, xl_2, nI_add, nI_1, nm_2, nm_3, nm_4, nm_6, nm_7, nm_8, nm_12, nm_16, na_0, na_2, na_3, na_4, na_5, na_6, na_7, na_8, nm_p, nm_m, nI_clamp]); first | done | assumption | exact h.sc.k (by decide) | exact h.sc.kb (by omega) | exact h.sc.kbt (by omega) | exact h.sc.kbh (by omega) | exact h.sc.kba (by omega) | exact h.sc.kt (by omega) | exact h.sc.ktl (by omega) | exact h.sc.ks (by omega) | rfl) rfl (Nat.le_of_ble_eq_true rfl) dX0_thread_50 (jIr (fun r50 h50 => ?_))
          subst h50
          have hj2 := rR_le (ids := σ2.2 31) (refs := σ2.2 32) 300 j
          refine x_iload_n hκ dX0_thread_53 rfl ?_
          refine x_icmp_ne (tgt := 61) hκ dX0_thread_54 (by decide) (fun c54 => ?_) (fun c54 => ?_)
          · -- X0_thread 54T
            have i54 := c54
            simp (disch := omega) only [i32_lt, i32_le, i32_eq, Int32.reduceToInt, nI_toInt] at i54
            refine x_iconst (v := 0) hκ dX0_thread_61 (by decide) ?_
            refine x_iaddN hκ (by (try simp (disch := omega) only [oS_k, oS_o, oS_a, oS_f, oS_n, aS_k, aS_o, aS_a, aS_f, aS_n, fS_k, fS_o, fS_a, fS_f, fS_n, nO_k, nO_o, nO_a, nA_k, nA_o, nA_a, nA_f, nA_n, nF_k, nF_o, nF_a, nF_f, nF_n, Nat.reduceEqDiff, ↓reduceIte, and_true, true_and, and_false, false_and, reduceCtorEq, xl_0, xl_1, xl_2, nI_add, nI_1, nm_2, nm_3, nm_4, nm_6, nm_7, nm_8, nm_12, nm_16, na_0, na_2, na_3, na_4, na_5, na_6, na_7, na_8, nm_p, nm_m, nI_clamp]); first | exact h.sc.o (by decide) rfl | exact h.sc.ob1 (by omega) | exact h.sc.ob2 (by omega) | exact h.sc.ob3 (by omega) | exact h.sc.ot (by omega) | exact h.sc.fb (by omega) | exact h.sc.ft (by omega) (by omega) | exact h.sc.fs (by omega) | exact h.p.1 | exact h.p.2.2.2.2.1 | exact h.p.2.2.2.2.2.1 | exact h.p.2.2.2.2.2.2.1 | exact h.p.2.2.2.2.2.2.2.1 | exact h.p.2.2.2.2.2.2.2.2.1 | exact rfl) dX0_thread_62 ?_
            refine x_istore_n hκ dX0_thread_63 (by rw [hL]; decide) rfl ?_
            refine x_iincN (y := 1) hκ dX0_thread_64 (by decide) rfl (by rw [hL]; decide) rfl (by (try simp (disch := omega) only [oS_k, oS_o, oS_a, oS_f, oS_n, aS_k, aS_o, aS_a, aS_f, aS_n, fS_k, fS_o, fS_a, fS_f, fS_n, nO_k, nO_o, nO_a, nA_k, nA_o, nA_a, nA_f, nA_n, nF_k, nF_o, nF_a, nF_f, nF_n, Nat.reduceEqDiff, ↓reduceIte, and_true, true_and, and_false, false_and, reduceCtorEq, xl_0, xl_1, xl_2, nI_add, nI_1, nm_2, nm_3, nm_4, nm_6, nm_7, nm_8, nm_12, nm_16, na_0, na_2, na_3, na_4, na_5, na_6, na_7, na_8, nm_p, nm_m, nI_clamp]); first | exact h.sc.o (by decide) rfl | exact h.sc.ob1 (by omega) | exact h.sc.ob2 (by omega) | exact h.sc.ob3 (by omega) | exact h.sc.ot (by omega) | exact h.sc.fb (by omega) | exact h.sc.ft (by omega) (by omega) | exact h.sc.fs (by omega) | exact h.p.1 | exact h.p.2.2.2.2.1 | exact h.p.2.2.2.2.2.1 | exact h.p.2.2.2.2.2.2.1 | exact h.p.2.2.2.2.2.2.2.1 | exact h.p.2.2.2.2.2.2.2.2.1 | exact rfl) ?_
            refine x_goto (tgt := 32) hκ dX0_thread_67 (by decide) ?_
            rw [if_neg (fun z => c54 (by rw [z]))] at q
            exact q
          · -- X0_thread 54F
            have i54 := c54
            simp (disch := omega) only [i32_lt, i32_le, i32_eq, Int32.reduceToInt, nI_toInt] at i54
            refine x_iconst (v := 1) hκ dX0_thread_57 (by decide) ?_
            refine x_goto (tgt := 62) hκ dX0_thread_58 (by decide) ?_
            refine x_iaddN hκ (by (try simp (disch := omega) only [oS_k, oS_o, oS_a, oS_f, oS_n, aS_k, aS_o, aS_a, aS_f, aS_n, fS_k, fS_o, fS_a, fS_f, fS_n, nO_k, nO_o, nO_a, nA_k, nA_o, nA_a, nA_f, nA_n, nF_k, nF_o, nF_a, nF_f, nF_n, Nat.reduceEqDiff, ↓reduceIte, and_true, true_and, and_false, false_and, reduceCtorEq, xl_0, xl_1, xl_2, nI_add, nI_1, nm_2, nm_3, nm_4, nm_6, nm_7, nm_8, nm_12, nm_16, na_0, na_2, na_3, na_4, na_5, na_6, na_7, na_8, nm_p, nm_m, nI_clamp]); first | exact h.sc.o (by decide) rfl | exact h.sc.ob1 (by omega) | exact h.sc.ob2 (by omega) | exact h.sc.ob3 (by omega) | exact h.sc.ot (by omega) | exact h.sc.fb (by omega) | exact h.sc.ft (by omega) (by omega) | exact h.sc.fs (by omega) | exact h.p.1 | exact h.p.2.2.2.2.1 | exact h.p.2.2.2.2.2.1 | exact h.p.2.2.2.2.2.2.1 | exact h.p.2.2.2.2.2.2.2.1 | exact h.p.2.2.2.2.2.2.2.2.1 | exact rfl) dX0_thread_62 ?_
            refine x_istore_n hκ dX0_thread_63 (by rw [hL]; decide) rfl ?_
            refine x_iincN (y := 1) hκ dX0_thread_64 (by decide) rfl (by rw [hL]; decide) rfl (by (try simp (disch := omega) only [oS_k, oS_o, oS_a, oS_f, oS_n, aS_k, aS_o, aS_a, aS_f, aS_n, fS_k, fS_o, fS_a, fS_f, fS_n, nO_k, nO_o, nO_a, nA_k, nA_o, nA_a, nA_f, nA_n, nF_k, nF_o, nF_a, nF_f, nF_n, Nat.reduceEqDiff, ↓reduceIte, and_true, true_and, and_false, false_and, reduceCtorEq, xl_0, xl_1, xl_2, nI_add, nI_1, nm_2, nm_3, nm_4, nm_6, nm_7, nm_8, nm_12, nm_16, na_0, na_2, na_3, na_4, na_5, na_6, na_7, na_8, nm_p, nm_m, nI_clamp]); first | exact h.sc.o (by decide) rfl | exact h.sc.ob1 (by omega) | exact h.sc.ob2 (by omega) | exact h.sc.ob3 (by omega) | exact h.sc.ot (by omega) | exact h.sc.fb (by omega) | exact h.sc.ft (by omega) (by omega) | exact h.sc.fs (by omega) | exact h.p.1 | exact h.p.2.2.2.2.1 | exact h.p.2.2.2.2.2.1 | exact h.p.2.2.2.2.2.2.1 | exact h.p.2.2.2.2.2.2.2.1 | exact h.p.2.2.2.2.2.2.2.2.1 | exact rfl) ?_
            refine x_goto (tgt := 32) hκ dX0_thread_67 (by decide) ?_
            rw [if_pos ((nI_eq (by omega) (by omega)).mp c54)] at q
            exact q
    refine x_istore_n hκ dX0_thread_26 (by rw [hL]; decide) rfl ?_
    refine x_iconst (v := 0) hκ dX0_thread_27 (by decide) ?_
    refine x_istore_n hκ dX0_thread_28 (by rw [hL]; decide) rfl ?_
    refine x_iload_n hκ dX0_thread_29 rfl ?_
    refine x_istore hκ dX0_thread_30 (by rw [hL]; decide) rfl ?_
    have q := loop (vN γ - rR (σ2.2 31) (σ2.2 32) 300 M) (rR (σ2.2 31) (σ2.2 32) 300 M) (Nat.le_refl _) (by omega)
    rw [rC_0 _ (Nat.le_refl _)] at q
    exact q
  · -- X0_thread 16F
    have i16 := h13.f c16
    try simp only [Int32.reduceToInt] at i16
    refine x_iconst (v := (-1)) hκ dX0_thread_19 (by decide) ?_
    refine c_reti hκ hr dX0_thread_20 ?_
    rw [if_neg (by have e0 : Int32.toInt 0 = 0 := rfl; omega)]
    exact ⟨rfl, γ, h⟩
