theorem wX0_430 : GoodIn lw_all (wsV RX0 430 RX0 yX0_isRule (ws_ yX0_isRule cX0_isRule 3 (some .boolean))) := lw_V q1017 q1019 qs30 q69 q1020
theorem aX0_isRule : yX0_isRule.cls = RX0 ∧ yX0_isRule.cls ≠ "java/lang/invoke/MethodHandle" ∧ yX0_isRule.cls ≠ "java/lang/invoke/VarHandle" ∧ (parseMethodDescriptor yX0_isRule.desc).map (fun d => d.parameters.length) = some 2 := by decide +kernel
theorem wX0_434 : GoodIn lw_all (wsV RX0 434 RX0 yX0_leastFor (ws_ yX0_leastFor cX0_leastFor 5 (some .int))) := lw_V q1021 q1023 qs31 q69 q1024
theorem aX0_leastFor : yX0_leastFor.cls = RX0 ∧ yX0_leastFor.cls ≠ "java/lang/invoke/MethodHandle" ∧ yX0_leastFor.cls ≠ "java/lang/invoke/VarHandle" ∧ (parseMethodDescriptor yX0_leastFor.desc).map (fun d => d.parameters.length) = some 2 := by decide +kernel
theorem wX0_438 : GoodIn lw_all (wsV RX0 438 RX9 yX9_files (ws_ yX9_files cX9_files 3 (some .int))) := lw_V q1051 q1052 q1053 q83 q1054
theorem aX9_files : yX9_files.cls = RX9 ∧ yX9_files.cls ≠ "java/lang/invoke/MethodHandle" ∧ yX9_files.cls ≠ "java/lang/invoke/VarHandle" ∧ (parseMethodDescriptor yX9_files.desc).map (fun d => d.parameters.length) = some 0 := by decide +kernel
/-! the component: what is told of cases -/
theorem scr_sh : [0, 1, 7, 8, 25, 26, 27, 28, 29, 30, 31, 32, 33, 34, 35, 36, 37, 38, 39, 40, 41, 42, 43, 54, 55, 56, 57, 58].all (fun k => !scr k) = true := by decide
theorem CW.pe {E : gE} {L : Nat → Nat} {γ : Gh} {σ : TS} {s : CSt} (h : CW E L γ σ s) {σ' : TS} (hp : Pe σ σ') : CW E L γ σ' s := by
  refine CW.fr (S := (List.range 61).filter scr) h (fun k hk => ?_) (by decide)
  refine hp k ?_
  cases e : scr k with
  | false => rfl
  | true =>
    exfalso
    have hk61 : k < 61 := by
      rcases Nat.lt_or_ge k 61 with z | z
      · exact z
      · exfalso
        unfold scr at e
        simp at e
        omega
    have : ((List.range 61).filter scr).contains k = true := by
      rw [List.contains_iff_mem]
      exact List.mem_filter.mpr ⟨List.mem_range.mpr hk61, e⟩
    rw [this] at hk
    cases hk
theorem oX0_atoms {E : gE} {L : Nat → Nat} {γ : Gh} {σ : TS} {s : CSt} (h : CW E L γ σ s) (hR : ∀ k, k < 3 → RV σ k (vQ γ k)) {b : Int32} {r2 : Int32} {σ2 : TS} (h2 : (r2 = if 0 ≤ b.toInt ∧ b.toInt ≤ 2 then (if (vQ γ (Int32.toNatClampNeg b)).length = 0 then -4 else nI (gth (allC (vQ γ (Int32.toNatClampNeg b))) []).length) else -1) ∧ Pe σ σ2) : CMg E s yX0_atoms cX0_atoms 2 (some .int) 3 0 0 [.ref (L 0), .int b] (cQ E L r2 σ2) := by
  obtain ⟨rfl, hpe⟩ := h2
  refine CMg.of (by decide) (Nat.le_of_ble_eq_true rfl) ?_
  rintro κ rfl hL hκ hr
  refine x_iload_n hκ dX0_atoms_0 rfl ?_
  refine x_callSi hκ mX0_isBox (by omega) (by decide) wX0_148 aX0_isBox rfl (Nat.le_of_ble_eq_true rfl) dX0_atoms_1 (fun r1 h1 => ?_)
  refine x_if_ne (tgt := 9) hκ dX0_atoms_4 (by decide) (fun c4 => ?_) (fun c4 => ?_)
  · -- X0_atoms 4T
    have i4 := h1.t c4
    try simp only [Int32.reduceToInt] at i4
    rw [if_pos i4] at hr
    obtain ⟨B, hB, rfl, -⟩ := i32_nat i4
    rw [nI_clamp (by omega)] at hr
    have hBB : B < 3 := by omega
    obtain ⟨h1, h2, l1, l2, a1, a2, e2, g1, g2, g3, g4, g5, g6, g7, g8, g9, g10⟩ := h.r.2 B hBB
    refine x_aload_n hκ dX0_atoms_9 rfl ?_
    refine c_get hκ kX0 (by (try simp (disch := omega) only [oS_k, oS_o, oS_a, oS_f, oS_n, aS_k, aS_o, aS_a, aS_f, aS_n, fS_k, fS_o, fS_a, fS_f, fS_n, nO_k, nO_o, nO_a, nA_k, nA_o, nA_a, nA_f, nA_n, nF_k, nF_o, nF_a, nF_f, nF_n, Nat.reduceEqDiff, ↓reduceIte, and_true, true_and, and_false, false_and, reduceCtorEq, xl_0, xl_1, xl_2, nI_add, nI_1, nm_2, nm_3, nm_4, nm_6, nm_7, nm_8, nm_12, nm_16, na_0, na_2, na_3, na_4, na_5, na_6, na_7, na_8, nm_p, nm_m, nI_clamp]); first | done | assumption | exact h.sc.k (by decide) | exact h.sc.kb (by omega) | exact h.sc.kbt (by omega) | exact h.sc.kbh (by omega) | exact h.sc.kba (by omega) | exact h.sc.kt (by omega) | exact h.sc.ktl (by omega) | exact h.sc.ks (by omega) | rfl) 7 (by decide) (Or.inl q636) rfl (by (try simp (disch := omega) only [oS_k, oS_o, oS_a, oS_f, oS_n, aS_k, aS_o, aS_a, aS_f, aS_n, fS_k, fS_o, fS_a, fS_f, fS_n, nO_k, nO_o, nO_a, nA_k, nA_o, nA_a, nA_f, nA_n, nF_k, nF_o, nF_a, nF_f, nF_n, Nat.reduceEqDiff, ↓reduceIte, and_true, true_and, and_false, false_and, reduceCtorEq, xl_0, xl_1, xl_2, nI_add, nI_1, nm_2, nm_3, nm_4, nm_6, nm_7, nm_8, nm_12, nm_16, na_0, na_2, na_3, na_4, na_5, na_6, na_7, na_8, nm_p, nm_m, nI_clamp]); first | exact h.sc.o (by decide) rfl | exact h.sc.ob1 (by omega) | exact h.sc.ob2 (by omega) | exact h.sc.ob3 (by omega) | exact h.sc.ot (by omega) | exact h.sc.fb (by omega) | exact h.sc.ft (by omega) (by omega) | exact h.sc.fs (by omega) | exact h.p.1 | exact h.p.2.2.2.2.1 | exact h.p.2.2.2.2.2.1 | exact h.p.2.2.2.2.2.2.1 | exact h.p.2.2.2.2.2.2.2.1 | exact h.p.2.2.2.2.2.2.2.2.1 | exact rfl) dX0_atoms_10 ?_
    refine x_iload_n hκ dX0_atoms_13 rfl ?_
    refine c_aald (t := 6) hκ (by (try simp (disch := omega) only [oS_k, oS_o, oS_a, oS_f, oS_n, aS_k, aS_o, aS_a, aS_f, aS_n, fS_k, fS_o, fS_a, fS_f, fS_n, nO_k, nO_o, nO_a, nA_k, nA_o, nA_a, nA_f, nA_n, nF_k, nF_o, nF_a, nF_f, nF_n, Nat.reduceEqDiff, ↓reduceIte, and_true, true_and, and_false, false_and, reduceCtorEq, xl_0, xl_1, xl_2, nI_add, nI_1, nm_2, nm_3, nm_4, nm_6, nm_7, nm_8, nm_12, nm_16, na_0, na_2, na_3, na_4, na_5, na_6, na_7, na_8, nm_p, nm_m, nI_clamp]); first | done | assumption | exact h.sc.k (by decide) | exact h.sc.kb (by omega) | exact h.sc.kbt (by omega) | exact h.sc.kbh (by omega) | exact h.sc.kba (by omega) | exact h.sc.kt (by omega) | exact h.sc.ktl (by omega) | exact h.sc.ks (by omega) | rfl) (by decide) (by decide) (by (try simp (disch := omega) only [oS_k, oS_o, oS_a, oS_f, oS_n, aS_k, aS_o, aS_a, aS_f, aS_n, fS_k, fS_o, fS_a, fS_f, fS_n, nO_k, nO_o, nO_a, nA_k, nA_o, nA_a, nA_f, nA_n, nF_k, nF_o, nF_a, nF_f, nF_n, Nat.reduceEqDiff, ↓reduceIte, and_true, true_and, and_false, false_and, reduceCtorEq, xl_0, xl_1, xl_2, nI_add, nI_1, nm_2, nm_3, nm_4, nm_6, nm_7, nm_8, nm_12, nm_16, na_0, na_2, na_3, na_4, na_5, na_6, na_7, na_8, nm_p, nm_m, nI_clamp]); first | exact h.sc.n3 | exact h.sc.n4 | exact h.sc.nbt (by omega) | exact h.sc.nbh (by omega) | exact h.sc.nba (by omega) | exact h.sc.n41 | exact h.sc.n42 | exact h.sc.n43 | exact h.sc.n45 | exact h.sc.n46 | exact h.sc.n48 | exact rfl) (by first | ((with_reducible refine vp_in_nI ?_ ?_) <;> omega) | exact i32_in (by omega) (by omega) | exact i32_in' (by simp only [Int32.toInt_add, Int32.toInt_mul, Int32.toInt_sub, Int32.reduceToInt, Int.bmod_add_bmod, Int.bmod_sub_bmod, Int.add_bmod_bmod, Int.sub_bmod_bmod, Int.bmod_mul_bmod, Int.mul_bmod_bmod]; exact i32_bm (by omega) (by omega)) (by omega) (by omega) | exact i32_in (by decide) (by decide)) (by (try simp (disch := omega) only [oS_k, oS_o, oS_a, oS_f, oS_n, aS_k, aS_o, aS_a, aS_f, aS_n, fS_k, fS_o, fS_a, fS_f, fS_n, nO_k, nO_o, nO_a, nA_k, nA_o, nA_a, nA_f, nA_n, nF_k, nF_o, nF_a, nF_f, nF_n, Nat.reduceEqDiff, ↓reduceIte, and_true, true_and, and_false, false_and, reduceCtorEq, xl_0, xl_1, xl_2, nI_add, nI_1, nm_2, nm_3, nm_4, nm_6, nm_7, nm_8, nm_12, nm_16, na_0, na_2, na_3, na_4, na_5, na_6, na_7, na_8, nm_p, nm_m, nI_clamp]); first | exact h.sc.o (by decide) rfl | exact h.sc.ob1 (by omega) | exact h.sc.ob2 (by omega) | exact h.sc.ob3 (by omega) | exact h.sc.ot (by omega) | exact h.sc.fb (by omega) | exact h.sc.ft (by omega) (by omega) | exact h.sc.fs (by omega) | exact h.p.1 | exact h.p.2.2.2.2.1 | exact h.p.2.2.2.2.2.1 | exact h.p.2.2.2.2.2.2.1 | exact h.p.2.2.2.2.2.2.2.1 | exact h.p.2.2.2.2.2.2.2.2.1 | exact rfl) dX0_atoms_14 ?_
    refine c_get hκ kX2 (by (try simp (disch := omega) only [oS_k, oS_o, oS_a, oS_f, oS_n, aS_k, aS_o, aS_a, aS_f, aS_n, fS_k, fS_o, fS_a, fS_f, fS_n, nO_k, nO_o, nO_a, nA_k, nA_o, nA_a, nA_f, nA_n, nF_k, nF_o, nF_a, nF_f, nF_n, Nat.reduceEqDiff, ↓reduceIte, and_true, true_and, and_false, false_and, reduceCtorEq, xl_0, xl_1, xl_2, nI_add, nI_1, nm_2, nm_3, nm_4, nm_6, nm_7, nm_8, nm_12, nm_16, na_0, na_2, na_3, na_4, na_5, na_6, na_7, na_8, nm_p, nm_m, nI_clamp]); first | done | assumption | exact h.sc.k (by decide) | exact h.sc.kb (by omega) | exact h.sc.kbt (by omega) | exact h.sc.kbh (by omega) | exact h.sc.kba (by omega) | exact h.sc.kt (by omega) | exact h.sc.ktl (by omega) | exact h.sc.ks (by omega) | rfl) 5 (by decide) (Or.inr ⟨_, q544⟩) rfl (by exact (h.b B hBB).2.1) dX0_atoms_15 ?_
    refine c_get hκ kX4 (by exact h2) 0 (by decide) (Or.inr ⟨_, q162⟩) rfl (by exact g1) dX0_atoms_18 ?_
    refine c_callF  hκ (mJ2_isEmpty g7) (by omega) (by decide) vX0_326_J2 fJ2_isEmpty kJ2 (by exact g7.1) rfl (Nat.le_of_ble_eq_true rfl) dX0_atoms_21 (jIr (fun r21 h21 => ?_))
    refine x_if_eq (tgt := 34) hκ dX0_atoms_26 (by decide) (fun c26 => ?_) (fun c26 => ?_)
    · -- X0_atoms 26T
      have i26 := h21.f c26
      try simp only [Int32.reduceToInt] at i26
      refine x_aload_n hκ dX0_atoms_34 rfl ?_
      refine c_get hκ kX0 (by (try simp (disch := omega) only [oS_k, oS_o, oS_a, oS_f, oS_n, aS_k, aS_o, aS_a, aS_f, aS_n, fS_k, fS_o, fS_a, fS_f, fS_n, nO_k, nO_o, nO_a, nA_k, nA_o, nA_a, nA_f, nA_n, nF_k, nF_o, nF_a, nF_f, nF_n, Nat.reduceEqDiff, ↓reduceIte, and_true, true_and, and_false, false_and, reduceCtorEq, xl_0, xl_1, xl_2, nI_add, nI_1, nm_2, nm_3, nm_4, nm_6, nm_7, nm_8, nm_12, nm_16, na_0, na_2, na_3, na_4, na_5, na_6, na_7, na_8, nm_p, nm_m, nI_clamp]); first | done | assumption | exact h.sc.k (by decide) | exact h.sc.kb (by omega) | exact h.sc.kbt (by omega) | exact h.sc.kbh (by omega) | exact h.sc.kba (by omega) | exact h.sc.kt (by omega) | exact h.sc.ktl (by omega) | exact h.sc.ks (by omega) | rfl) 7 (by decide) (Or.inl q636) rfl (by (try simp (disch := omega) only [oS_k, oS_o, oS_a, oS_f, oS_n, aS_k, aS_o, aS_a, aS_f, aS_n, fS_k, fS_o, fS_a, fS_f, fS_n, nO_k, nO_o, nO_a, nA_k, nA_o, nA_a, nA_f, nA_n, nF_k, nF_o, nF_a, nF_f, nF_n, Nat.reduceEqDiff, ↓reduceIte, and_true, true_and, and_false, false_and, reduceCtorEq, xl_0, xl_1, xl_2, nI_add, nI_1, nm_2, nm_3, nm_4, nm_6, nm_7, nm_8, nm_12, nm_16, na_0, na_2, na_3, na_4, na_5, na_6, na_7, na_8, nm_p, nm_m, nI_clamp]); first | exact h.sc.o (by decide) rfl | exact h.sc.ob1 (by omega) | exact h.sc.ob2 (by omega) | exact h.sc.ob3 (by omega) | exact h.sc.ot (by omega) | exact h.sc.fb (by omega) | exact h.sc.ft (by omega) (by omega) | exact h.sc.fs (by omega) | exact h.p.1 | exact h.p.2.2.2.2.1 | exact h.p.2.2.2.2.2.1 | exact h.p.2.2.2.2.2.2.1 | exact h.p.2.2.2.2.2.2.2.1 | exact h.p.2.2.2.2.2.2.2.2.1 | exact rfl) dX0_atoms_35 ?_
      refine x_iload_n hκ dX0_atoms_38 rfl ?_
      refine c_aald (t := 6) hκ (by (try simp (disch := omega) only [oS_k, oS_o, oS_a, oS_f, oS_n, aS_k, aS_o, aS_a, aS_f, aS_n, fS_k, fS_o, fS_a, fS_f, fS_n, nO_k, nO_o, nO_a, nA_k, nA_o, nA_a, nA_f, nA_n, nF_k, nF_o, nF_a, nF_f, nF_n, Nat.reduceEqDiff, ↓reduceIte, and_true, true_and, and_false, false_and, reduceCtorEq, xl_0, xl_1, xl_2, nI_add, nI_1, nm_2, nm_3, nm_4, nm_6, nm_7, nm_8, nm_12, nm_16, na_0, na_2, na_3, na_4, na_5, na_6, na_7, na_8, nm_p, nm_m, nI_clamp]); first | done | assumption | exact h.sc.k (by decide) | exact h.sc.kb (by omega) | exact h.sc.kbt (by omega) | exact h.sc.kbh (by omega) | exact h.sc.kba (by omega) | exact h.sc.kt (by omega) | exact h.sc.ktl (by omega) | exact h.sc.ks (by omega) | rfl) (by decide) (by decide) (by (try simp (disch := omega) only [oS_k, oS_o, oS_a, oS_f, oS_n, aS_k, aS_o, aS_a, aS_f, aS_n, fS_k, fS_o, fS_a, fS_f, fS_n, nO_k, nO_o, nO_a, nA_k, nA_o, nA_a, nA_f, nA_n, nF_k, nF_o, nF_a, nF_f, nF_n, Nat.reduceEqDiff, ↓reduceIte, and_true, true_and, and_false, false_and, reduceCtorEq, xl_0, xl_1, xl_2, nI_add, nI_1, nm_2, nm_3, nm_4, nm_6, nm_7, nm_8, nm_12, nm_16, na_0, na_2, na_3, na_4, na_5, na_6, na_7, na_8, nm_p, nm_m, nI_clamp]); first | exact h.sc.n3 | exact h.sc.n4 | exact h.sc.nbt (by omega) | exact h.sc.nbh (by omega) | exact h.sc.nba (by omega) | exact h.sc.n41 | exact h.sc.n42 | exact h.sc.n43 | exact h.sc.n45 | exact h.sc.n46 | exact h.sc.n48 | exact rfl) (by first | ((with_reducible refine vp_in_nI ?_ ?_) <;> omega) | exact i32_in (by omega) (by omega) | exact i32_in' (by simp only [Int32.toInt_add, Int32.toInt_mul, Int32.toInt_sub, Int32.reduceToInt, Int.bmod_add_bmod, Int.bmod_sub_bmod, Int.add_bmod_bmod, Int.sub_bmod_bmod, Int.bmod_mul_bmod, Int.mul_bmod_bmod]; exact i32_bm (by omega) (by omega)) (by omega) (by omega) | exact i32_in (by decide) (by decide)) (by (try simp (disch := omega) only [oS_k, oS_o, oS_a, oS_f, oS_n, aS_k, aS_o, aS_a, aS_f, aS_n, fS_k, fS_o, fS_a, fS_f, fS_n, nO_k, nO_o, nO_a, nA_k, nA_o, nA_a, nA_f, nA_n, nF_k, nF_o, nF_a, nF_f, nF_n, Nat.reduceEqDiff, ↓reduceIte, and_true, true_and, and_false, false_and, reduceCtorEq, xl_0, xl_1, xl_2, nI_add, nI_1, nm_2, nm_3, nm_4, nm_6, nm_7, nm_8, nm_12, nm_16, na_0, na_2, na_3, na_4, na_5, na_6, na_7, na_8, nm_p, nm_m, nI_clamp]); first | exact h.sc.o (by decide) rfl | exact h.sc.ob1 (by omega) | exact h.sc.ob2 (by omega) | exact h.sc.ob3 (by omega) | exact h.sc.ot (by omega) | exact h.sc.fb (by omega) | exact h.sc.ft (by omega) (by omega) | exact h.sc.fs (by omega) | exact h.p.1 | exact h.p.2.2.2.2.1 | exact h.p.2.2.2.2.2.1 | exact h.p.2.2.2.2.2.2.1 | exact h.p.2.2.2.2.2.2.2.1 | exact h.p.2.2.2.2.2.2.2.2.1 | exact rfl) dX0_atoms_39 ?_
      refine c_get hκ kX2 (by (try simp (disch := omega) only [oS_k, oS_o, oS_a, oS_f, oS_n, aS_k, aS_o, aS_a, aS_f, aS_n, fS_k, fS_o, fS_a, fS_f, fS_n, nO_k, nO_o, nO_a, nA_k, nA_o, nA_a, nA_f, nA_n, nF_k, nF_o, nF_a, nF_f, nF_n, Nat.reduceEqDiff, ↓reduceIte, and_true, true_and, and_false, false_and, reduceCtorEq, xl_0, xl_1, xl_2, nI_add, nI_1, nm_2, nm_3, nm_4, nm_6, nm_7, nm_8, nm_12, nm_16, na_0, na_2, na_3, na_4, na_5, na_6, na_7, na_8, nm_p, nm_m, nI_clamp]); first | done | assumption | exact h.sc.k (by decide) | exact h.sc.kb (by omega) | exact h.sc.kbt (by omega) | exact h.sc.kbh (by omega) | exact h.sc.kba (by omega) | exact h.sc.kt (by omega) | exact h.sc.ktl (by omega) | exact h.sc.ks (by omega) | rfl) 5 (by decide) (Or.inr ⟨_, q544⟩) rfl (by exact (h.b B hBB).2.1) dX0_atoms_40 ?_
      refine c_get hκ kX4 (by exact h2) 1 (by decide) (Or.inr ⟨_, q164⟩) rfl (by exact g2) dX0_atoms_43 ?_
      refine c_callF  hκ (mJ2_size g8) (by omega) (by decide) vX0_100_J2 fJ2_size kJ2 (by exact g8.1) rfl (Nat.le_of_ble_eq_true rfl) dX0_atoms_46 (jIr (fun r46 h46 => ?_))
      refine c_reti hκ hr dX0_atoms_51 ?_
      rw [if_neg i26]
      exact ⟨h46, γ, h.pe hpe⟩
    · -- X0_atoms 26F
      have i26 := h21.t c26
      try simp only [Int32.reduceToInt] at i26
      refine x_bipush (v := (-4)) hκ dX0_atoms_29 (by decide) ?_
      refine x_goto (tgt := 51) hκ dX0_atoms_31 (by decide) ?_
      refine c_reti hκ hr dX0_atoms_51 ?_
      rw [if_pos i26]
      exact ⟨rfl, γ, h.pe hpe⟩
  · -- X0_atoms 4F
    have i4 := h1.f c4
    try simp only [Int32.reduceToInt] at i4
    refine x_iconst (v := (-1)) hκ dX0_atoms_7 (by decide) ?_
    refine c_reti hκ hr dX0_atoms_8 ?_
    rw [if_neg i4]
    exact ⟨rfl, γ, h.pe hpe⟩
theorem mX0_isRule {E : gE} {L : Nat → Nat} {γ : Gh} {σ : TS} {s : CSt} (h : CW E L γ σ s) (hR : ∀ k, k < 3 → RV σ k (vQ γ k)) {b k : Int32} : CMg E s yX0_isRule cX0_isRule 3 (some .boolean) 3 0 0 [.ref (L 0), .int b, .int k] (qI (fun r s' => Tz ((0 ≤ b.toInt ∧ b.toInt ≤ 2) ∧ 0 ≤ k.toInt ∧ k.toInt < (vQ γ (Int32.toNatClampNeg b)).length) r ∧ s' = s)) := by
  refine CMg.of (by decide) (Nat.le_of_ble_eq_true rfl) ?_
  rintro κ rfl hL hκ hr
  refine x_iload_n hκ dX0_isRule_0 rfl ?_
  refine x_callSi hκ mX0_isBox (by omega) (by decide) wX0_148 aX0_isBox rfl (Nat.le_of_ble_eq_true rfl) dX0_isRule_1 (fun r1 h1 => ?_)
  refine x_if_eq (tgt := 38) hκ dX0_isRule_4 (by decide) (fun c4 => ?_) (fun c4 => ?_)
  · -- X0_isRule 4T
    have i4 := h1.f c4
    try simp only [Int32.reduceToInt] at i4
    refine x_iconst (v := 0) hκ dX0_isRule_38 (by decide) ?_
    refine c_retz hκ hr dX0_isRule_39 (by first | exact Or.inl rfl | exact Or.inr rfl | assumption) ?_
    exact ⟨Tz0 (fun z => i4 z.1), rfl⟩
  · -- X0_isRule 4F
    have i4 := h1.t c4
    try simp only [Int32.reduceToInt] at i4
    obtain ⟨B, hB, rfl, -⟩ := i32_nat i4
    have hBB : B < 3 := by omega
    obtain ⟨h1, h2, l1, l2, a1, a2, e2, g1, g2, g3, g4, g5, g6, g7, g8, g9, g10⟩ := h.r.2 B hBB
    have hl6 := (hR B hBB).2.1
    have q1 := nI_clamp (n := B) (by omega)
    refine x_iload_n hκ dX0_isRule_7 rfl ?_
    refine x_iconst (v := 0) hκ dX0_isRule_8 (by decide) ?_
    refine x_aload_n hκ dX0_isRule_9 rfl ?_
    refine c_get hκ kX0 (by (try simp (disch := omega) only [oS_k, oS_o, oS_a, oS_f, oS_n, aS_k, aS_o, aS_a, aS_f, aS_n, fS_k, fS_o, fS_a, fS_f, fS_n, nO_k, nO_o, nO_a, nA_k, nA_o, nA_a, nA_f, nA_n, nF_k, nF_o, nF_a, nF_f, nF_n, Nat.reduceEqDiff, ↓reduceIte, and_true, true_and, and_false, false_and, reduceCtorEq, xl_0, xl_1, xl_2, nI_add, nI_1, nm_2, nm_3, nm_4, nm_6, nm_7, nm_8, nm_12, nm_16, na_0, na_2, na_3, na_4, na_5, na_6, na_7, na_8, nm_p, nm_m, nI_clamp]); first | done | assumption | exact h.sc.k (by decide) | exact h.sc.kb (by omega) | exact h.sc.kbt (by omega) | exact h.sc.kbh (by omega) | exact h.sc.kba (by omega) | exact h.sc.kt (by omega) | exact h.sc.ktl (by omega) | exact h.sc.ks (by omega) | rfl) 7 (by decide) (Or.inl q636) rfl (by (try simp (disch := omega) only [oS_k, oS_o, oS_a, oS_f, oS_n, aS_k, aS_o, aS_a, aS_f, aS_n, fS_k, fS_o, fS_a, fS_f, fS_n, nO_k, nO_o, nO_a, nA_k, nA_o, nA_a, nA_f, nA_n, nF_k, nF_o, nF_a, nF_f, nF_n, Nat.reduceEqDiff, ↓reduceIte, and_true, true_and, and_false, false_and, reduceCtorEq, xl_0, xl_1, xl_2, nI_add, nI_1, nm_2, nm_3, nm_4, nm_6, nm_7, nm_8, nm_12, nm_16, na_0, na_2, na_3, na_4, na_5, na_6, na_7, na_8, nm_p, nm_m, nI_clamp]); first | exact h.sc.o (by decide) rfl | exact h.sc.ob1 (by omega) | exact h.sc.ob2 (by omega) | exact h.sc.ob3 (by omega) | exact h.sc.ot (by omega) | exact h.sc.fb (by omega) | exact h.sc.ft (by omega) (by omega) | exact h.sc.fs (by omega) | exact h.p.1 | exact h.p.2.2.2.2.1 | exact h.p.2.2.2.2.2.1 | exact h.p.2.2.2.2.2.2.1 | exact h.p.2.2.2.2.2.2.2.1 | exact h.p.2.2.2.2.2.2.2.2.1 | exact rfl) dX0_isRule_10 ?_
    refine x_iload_n hκ dX0_isRule_13 rfl ?_
    refine c_aald (t := 6) hκ (by (try simp (disch := omega) only [oS_k, oS_o, oS_a, oS_f, oS_n, aS_k, aS_o, aS_a, aS_f, aS_n, fS_k, fS_o, fS_a, fS_f, fS_n, nO_k, nO_o, nO_a, nA_k, nA_o, nA_a, nA_f, nA_n, nF_k, nF_o, nF_a, nF_f, nF_n, Nat.reduceEqDiff, ↓reduceIte, and_true, true_and, and_false, false_and, reduceCtorEq, xl_0, xl_1, xl_2, nI_add, nI_1, nm_2, nm_3, nm_4, nm_6, nm_7, nm_8, nm_12, nm_16, na_0, na_2, na_3, na_4, na_5, na_6, na_7, na_8, nm_p, nm_m, nI_clamp]); first | done | assumption | exact h.sc.k (by decide) | exact h.sc.kb (by omega) | exact h.sc.kbt (by omega) | exact h.sc.kbh (by omega) | exact h.sc.kba (by omega) | exact h.sc.kt (by omega) | exact h.sc.ktl (by omega) | exact h.sc.ks (by omega) | rfl) (by decide) (by decide) (by (try simp (disch := omega) only [oS_k, oS_o, oS_a, oS_f, oS_n, aS_k, aS_o, aS_a, aS_f, aS_n, fS_k, fS_o, fS_a, fS_f, fS_n, nO_k, nO_o, nO_a, nA_k, nA_o, nA_a, nA_f, nA_n, nF_k, nF_o, nF_a, nF_f, nF_n, Nat.reduceEqDiff, ↓reduceIte, and_true, true_and, and_false, false_and, reduceCtorEq, xl_0, xl_1, xl_2, nI_add, nI_1, nm_2, nm_3, nm_4, nm_6, nm_7, nm_8, nm_12, nm_16, na_0, na_2, na_3, na_4, na_5, na_6, na_7, na_8, nm_p, nm_m, nI_clamp]); first | exact h.sc.n3 | exact h.sc.n4 | exact h.sc.nbt (by omega) | exact h.sc.nbh (by omega) | exact h.sc.nba (by omega) | exact h.sc.n41 | exact h.sc.n42 | exact h.sc.n43 | exact h.sc.n45 | exact h.sc.n46 | exact h.sc.n48 | exact rfl) (by first | ((with_reducible refine vp_in_nI ?_ ?_) <;> omega) | exact i32_in (by omega) (by omega) | exact i32_in' (by simp only [Int32.toInt_add, Int32.toInt_mul, Int32.toInt_sub, Int32.reduceToInt, Int.bmod_add_bmod, Int.bmod_sub_bmod, Int.add_bmod_bmod, Int.sub_bmod_bmod, Int.bmod_mul_bmod, Int.mul_bmod_bmod]; exact i32_bm (by omega) (by omega)) (by omega) (by omega) | exact i32_in (by decide) (by decide)) (by (try simp (disch := omega) only [oS_k, oS_o, oS_a, oS_f, oS_n, aS_k, aS_o, aS_a, aS_f, aS_n, fS_k, fS_o, fS_a, fS_f, fS_n, nO_k, nO_o, nO_a, nA_k, nA_o, nA_a, nA_f, nA_n, nF_k, nF_o, nF_a, nF_f, nF_n, Nat.reduceEqDiff, ↓reduceIte, and_true, true_and, and_false, false_and, reduceCtorEq, xl_0, xl_1, xl_2, nI_add, nI_1, nm_2, nm_3, nm_4, nm_6, nm_7, nm_8, nm_12, nm_16, na_0, na_2, na_3, na_4, na_5, na_6, na_7, na_8, nm_p, nm_m, nI_clamp]); first | exact h.sc.o (by decide) rfl | exact h.sc.ob1 (by omega) | exact h.sc.ob2 (by omega) | exact h.sc.ob3 (by omega) | exact h.sc.ot (by omega) | exact h.sc.fb (by omega) | exact h.sc.ft (by omega) (by omega) | exact h.sc.fs (by omega) | exact h.p.1 | exact h.p.2.2.2.2.1 | exact h.p.2.2.2.2.2.1 | exact h.p.2.2.2.2.2.2.1 | exact h.p.2.2.2.2.2.2.2.1 | exact h.p.2.2.2.2.2.2.2.2.1 | exact rfl) dX0_isRule_14 ?_
    refine c_get hκ kX2 (by (try simp (disch := omega) only [oS_k, oS_o, oS_a, oS_f, oS_n, aS_k, aS_o, aS_a, aS_f, aS_n, fS_k, fS_o, fS_a, fS_f, fS_n, nO_k, nO_o, nO_a, nA_k, nA_o, nA_a, nA_f, nA_n, nF_k, nF_o, nF_a, nF_f, nF_n, Nat.reduceEqDiff, ↓reduceIte, and_true, true_and, and_false, false_and, reduceCtorEq, xl_0, xl_1, xl_2, nI_add, nI_1, nm_2, nm_3, nm_4, nm_6, nm_7, nm_8, nm_12, nm_16, na_0, na_2, na_3, na_4, na_5, na_6, na_7, na_8, nm_p, nm_m, nI_clamp]); first | done | assumption | exact h.sc.k (by decide) | exact h.sc.kb (by omega) | exact h.sc.kbt (by omega) | exact h.sc.kbh (by omega) | exact h.sc.kba (by omega) | exact h.sc.kt (by omega) | exact h.sc.ktl (by omega) | exact h.sc.ks (by omega) | rfl) 5 (by decide) (Or.inr ⟨_, q544⟩) rfl (by exact (h.b B hBB).2.1) dX0_isRule_15 ?_
    refine c_get hκ kX4 (by exact h2) 0 (by decide) (Or.inr ⟨_, q162⟩) rfl (by exact g1) dX0_isRule_18 ?_
    refine c_callF  hκ (mJ2_size g7) (by omega) (by decide) vX0_100_J2 fJ2_size kJ2 (by exact g7.1) rfl (Nat.le_of_ble_eq_true rfl) dX0_isRule_21 (jIr (fun r21 h21 => ?_))
    subst h21
    refine x_iconst (v := 1) hκ dX0_isRule_26 (by decide) ?_
    refine x_isub hκ dX0_isRule_27 ?_
    refine x_callSi hκ mX0_isIn (by omega) (by decide) wX0_3 aX0_isIn rfl (Nat.le_of_ble_eq_true rfl) dX0_isRule_28 (fun r28 h28 => ?_)
    have e13 : (nI (vQ γ B).length - 1).toInt = ((vQ γ B).length : Int) - 1 := by rw [i32_sub (by rw [nI_toInt (by omega)]; show _ ≤ _ - (1 : Int); omega) (by rw [nI_toInt (by omega)]; show _ - (1 : Int) < _; omega), nI_toInt (by omega)]; rfl
    rw [e13] at h28
    refine x_if_eq (tgt := 38) hκ dX0_isRule_31 (by decide) (fun c31 => ?_) (fun c31 => ?_)
    · -- X0_isRule 31T
      have i31 := h28.f c31
      try simp only [Int32.reduceToInt] at i31
      refine x_iconst (v := 0) hκ dX0_isRule_38 (by decide) ?_
      refine c_retz hκ hr dX0_isRule_39 (by first | exact Or.inl rfl | exact Or.inr rfl | assumption) ?_
      refine ⟨Tz0 ?_, rfl⟩
      rw [q1]
      have e0 : Int32.toInt 0 = 0 := rfl
      omega
    · -- X0_isRule 31F
      have i31 := h28.t c31
      try simp only [Int32.reduceToInt] at i31
      refine x_iconst (v := 1) hκ dX0_isRule_34 (by decide) ?_
      refine x_goto (tgt := 39) hκ dX0_isRule_35 (by decide) ?_
      refine c_retz hκ hr dX0_isRule_39 (by first | exact Or.inl rfl | exact Or.inr rfl | assumption) ?_
      refine ⟨Tz1 ?_, rfl⟩
      rw [q1]
      omega
theorem gth_180 {σ : TS} {b : Nat} {R : Rl} (hR : RV σ b R) : (gth (allC R) []).length ≤ 180 := by
  have h1 := gth_len (allC R) []
  have h2 := preL_all R
  have h3 := hR.2.2.1
  simp only [List.length_nil] at h1
  omega
theorem LeastR.uniq {R : Rl} {w z z' : Int32} (h : LeastR R w z) (h' : LeastR R w z') : z = z' := by
  unfold LeastR at h h'
  split at h
  · rename_i c
    rw [if_pos c] at h'
    rw [h, h']
  · rename_i c
    rw [if_neg c] at h'
    rcases h with ⟨x, x1, x2, x3, x4⟩ | ⟨x1, x2⟩ <;> rcases h' with ⟨y, y1, y2, y3, y4⟩ | ⟨y1, y2⟩
    · have : x = y := by
        rcases Nat.lt_trichotomy x y with q | q | q
        · exact absurd x2 (y3 x q)
        · exact q
        · exact absurd y2 (x3 y q)
      rw [x4, y4, this]
    · exact absurd x2 (y1 x x1)
    · exact absurd y2 (x1 y y1)
    · rw [x2, y2]
theorem oX0_shown {E : gE} {L : Nat → Nat} {γ : Gh} {σ : TS} {s : CSt} (h : CW E L γ σ s) (hR : ∀ k, k < 3 → RV σ k (vQ γ k)) {b k : Int32} {r2 : Int32} {σ2 : TS} (h2 : (if (0 ≤ b.toInt ∧ b.toInt ≤ 2) ∧ 0 ≤ k.toInt ∧ k.toInt < (vQ γ (Int32.toNatClampNeg b)).length then LeastR (vQ γ (Int32.toNatClampNeg b)) (1 <<< (k &&& 31)) r2 else r2 = -1) ∧ Pe σ σ2) : CMg E s yX0_shown cX0_shown 3 (some .int) 206 0 0 [.ref (L 0), .int b, .int k] (cQ E L r2 σ2) := by
  obtain ⟨h2, hpe⟩ := h2
  refine CMg.of (by decide) (Nat.le_of_ble_eq_true rfl) ?_
  rintro κ rfl hL hκ hr
  refine x_aload_n hκ dX0_shown_0 rfl ?_
  refine x_iload_n hκ dX0_shown_1 rfl ?_
  refine x_iload_n hκ dX0_shown_2 rfl ?_
  refine c_callV  hκ (mX0_isRule h hR) (by omega) (by decide) wX0_430 aX0_isRule kX0 (by (try simp (disch := omega) only [oS_k, oS_o, oS_a, oS_f, oS_n, aS_k, aS_o, aS_a, aS_f, aS_n, fS_k, fS_o, fS_a, fS_f, fS_n, nO_k, nO_o, nO_a, nA_k, nA_o, nA_a, nA_f, nA_n, nF_k, nF_o, nF_a, nF_f, nF_n, Nat.reduceEqDiff, ↓reduceIte, and_true, true_and, and_false, false_and, reduceCtorEq, xl_0, xl_1, xl_2, nI_add, nI_1, nm_2, nm_3, nm_4, nm_6, nm_7, nm_8, nm_12, nm_16, na_0, na_2, na_3, na_4, na_5, na_6, na_7, na_8, nm_p, nm_m, nI_clamp]); first | done | assumption | exact h.sc.k (by decide) | exact h.sc.kb (by omega) | exact h.sc.kbt (by omega) | exact h.sc.kbh (by omega) | exact h.sc.kba (by omega) | exact h.sc.kt (by omega) | exact h.sc.ktl (by omega) | exact h.sc.ks (by omega) | rfl) rfl (Nat.le_of_ble_eq_true rfl) dX0_shown_3 (jIr (fun r3 h3 => ?_))
  refine x_if_eq (tgt := 28) hκ dX0_shown_6 (by decide) (fun c6 => ?_) (fun c6 => ?_)
  · -- X0_shown 6T
    have i6 := h3.f c6
    try simp only [Int32.reduceToInt] at i6
    refine x_iconst (v := (-1)) hκ dX0_shown_28 (by decide) ?_
    refine c_reti hκ hr dX0_shown_29 ?_
    rw [if_neg i6] at h2
    exact ⟨h2.symm, γ, h.pe hpe⟩
  · -- X0_shown 6F
    have i6 := h3.t c6
    try simp only [Int32.reduceToInt] at i6
    rw [if_pos i6] at h2
    obtain ⟨B, hB, rfl, -⟩ := i32_nat i6.1
    rw [nI_clamp (by omega)] at h2
    have hBB : B < 3 := by omega
    refine x_aload_n hκ dX0_shown_9 rfl ?_
    refine x_aload_n hκ dX0_shown_10 rfl ?_
    refine c_get hκ kX0 (by (try simp (disch := omega) only [oS_k, oS_o, oS_a, oS_f, oS_n, aS_k, aS_o, aS_a, aS_f, aS_n, fS_k, fS_o, fS_a, fS_f, fS_n, nO_k, nO_o, nO_a, nA_k, nA_o, nA_a, nA_f, nA_n, nF_k, nF_o, nF_a, nF_f, nF_n, Nat.reduceEqDiff, ↓reduceIte, and_true, true_and, and_false, false_and, reduceCtorEq, xl_0, xl_1, xl_2, nI_add, nI_1, nm_2, nm_3, nm_4, nm_6, nm_7, nm_8, nm_12, nm_16, na_0, na_2, na_3, na_4, na_5, na_6, na_7, na_8, nm_p, nm_m, nI_clamp]); first | done | assumption | exact h.sc.k (by decide) | exact h.sc.kb (by omega) | exact h.sc.kbt (by omega) | exact h.sc.kbh (by omega) | exact h.sc.kba (by omega) | exact h.sc.kt (by omega) | exact h.sc.ktl (by omega) | exact h.sc.ks (by omega) | rfl) 7 (by decide) (Or.inl q636) rfl (by (try simp (disch := omega) only [oS_k, oS_o, oS_a, oS_f, oS_n, aS_k, aS_o, aS_a, aS_f, aS_n, fS_k, fS_o, fS_a, fS_f, fS_n, nO_k, nO_o, nO_a, nA_k, nA_o, nA_a, nA_f, nA_n, nF_k, nF_o, nF_a, nF_f, nF_n, Nat.reduceEqDiff, ↓reduceIte, and_true, true_and, and_false, false_and, reduceCtorEq, xl_0, xl_1, xl_2, nI_add, nI_1, nm_2, nm_3, nm_4, nm_6, nm_7, nm_8, nm_12, nm_16, na_0, na_2, na_3, na_4, na_5, na_6, na_7, na_8, nm_p, nm_m, nI_clamp]); first | exact h.sc.o (by decide) rfl | exact h.sc.ob1 (by omega) | exact h.sc.ob2 (by omega) | exact h.sc.ob3 (by omega) | exact h.sc.ot (by omega) | exact h.sc.fb (by omega) | exact h.sc.ft (by omega) (by omega) | exact h.sc.fs (by omega) | exact h.p.1 | exact h.p.2.2.2.2.1 | exact h.p.2.2.2.2.2.1 | exact h.p.2.2.2.2.2.2.1 | exact h.p.2.2.2.2.2.2.2.1 | exact h.p.2.2.2.2.2.2.2.2.1 | exact rfl) dX0_shown_11 ?_
    refine x_iload_n hκ dX0_shown_14 rfl ?_
    refine c_aald (t := 6) hκ (by (try simp (disch := omega) only [oS_k, oS_o, oS_a, oS_f, oS_n, aS_k, aS_o, aS_a, aS_f, aS_n, fS_k, fS_o, fS_a, fS_f, fS_n, nO_k, nO_o, nO_a, nA_k, nA_o, nA_a, nA_f, nA_n, nF_k, nF_o, nF_a, nF_f, nF_n, Nat.reduceEqDiff, ↓reduceIte, and_true, true_and, and_false, false_and, reduceCtorEq, xl_0, xl_1, xl_2, nI_add, nI_1, nm_2, nm_3, nm_4, nm_6, nm_7, nm_8, nm_12, nm_16, na_0, na_2, na_3, na_4, na_5, na_6, na_7, na_8, nm_p, nm_m, nI_clamp]); first | done | assumption | exact h.sc.k (by decide) | exact h.sc.kb (by omega) | exact h.sc.kbt (by omega) | exact h.sc.kbh (by omega) | exact h.sc.kba (by omega) | exact h.sc.kt (by omega) | exact h.sc.ktl (by omega) | exact h.sc.ks (by omega) | rfl) (by decide) (by decide) (by (try simp (disch := omega) only [oS_k, oS_o, oS_a, oS_f, oS_n, aS_k, aS_o, aS_a, aS_f, aS_n, fS_k, fS_o, fS_a, fS_f, fS_n, nO_k, nO_o, nO_a, nA_k, nA_o, nA_a, nA_f, nA_n, nF_k, nF_o, nF_a, nF_f, nF_n, Nat.reduceEqDiff, ↓reduceIte, and_true, true_and, and_false, false_and, reduceCtorEq, xl_0, xl_1, xl_2, nI_add, nI_1, nm_2, nm_3, nm_4, nm_6, nm_7, nm_8, nm_12, nm_16, na_0, na_2, na_3, na_4, na_5, na_6, na_7, na_8, nm_p, nm_m, nI_clamp]); first | exact h.sc.n3 | exact h.sc.n4 | exact h.sc.nbt (by omega) | exact h.sc.nbh (by omega) | exact h.sc.nba (by omega) | exact h.sc.n41 | exact h.sc.n42 | exact h.sc.n43 | exact h.sc.n45 | exact h.sc.n46 | exact h.sc.n48 | exact rfl) (by first | ((with_reducible refine vp_in_nI ?_ ?_) <;> omega) | exact i32_in (by omega) (by omega) | exact i32_in' (by simp only [Int32.toInt_add, Int32.toInt_mul, Int32.toInt_sub, Int32.reduceToInt, Int.bmod_add_bmod, Int.bmod_sub_bmod, Int.add_bmod_bmod, Int.sub_bmod_bmod, Int.bmod_mul_bmod, Int.mul_bmod_bmod]; exact i32_bm (by omega) (by omega)) (by omega) (by omega) | exact i32_in (by decide) (by decide)) (by (try simp (disch := omega) only [oS_k, oS_o, oS_a, oS_f, oS_n, aS_k, aS_o, aS_a, aS_f, aS_n, fS_k, fS_o, fS_a, fS_f, fS_n, nO_k, nO_o, nO_a, nA_k, nA_o, nA_a, nA_f, nA_n, nF_k, nF_o, nF_a, nF_f, nF_n, Nat.reduceEqDiff, ↓reduceIte, and_true, true_and, and_false, false_and, reduceCtorEq, xl_0, xl_1, xl_2, nI_add, nI_1, nm_2, nm_3, nm_4, nm_6, nm_7, nm_8, nm_12, nm_16, na_0, na_2, na_3, na_4, na_5, na_6, na_7, na_8, nm_p, nm_m, nI_clamp]); first | exact h.sc.o (by decide) rfl | exact h.sc.ob1 (by omega) | exact h.sc.ob2 (by omega) | exact h.sc.ob3 (by omega) | exact h.sc.ot (by omega) | exact h.sc.fb (by omega) | exact h.sc.ft (by omega) (by omega) | exact h.sc.fs (by omega) | exact h.p.1 | exact h.p.2.2.2.2.1 | exact h.p.2.2.2.2.2.1 | exact h.p.2.2.2.2.2.2.1 | exact h.p.2.2.2.2.2.2.2.1 | exact h.p.2.2.2.2.2.2.2.2.1 | exact rfl) dX0_shown_15 ?_
    refine c_get hκ kX2 (by (try simp (disch := omega) only [oS_k, oS_o, oS_a, oS_f, oS_n, aS_k, aS_o, aS_a, aS_f, aS_n, fS_k, fS_o, fS_a, fS_f, fS_n, nO_k, nO_o, nO_a, nA_k, nA_o, nA_a, nA_f, nA_n, nF_k, nF_o, nF_a, nF_f, nF_n, Nat.reduceEqDiff, ↓reduceIte, and_true, true_and, and_false, false_and, reduceCtorEq, xl_0, xl_1, xl_2, nI_add, nI_1, nm_2, nm_3, nm_4, nm_6, nm_7, nm_8, nm_12, nm_16, na_0, na_2, na_3, na_4, na_5, na_6, na_7, na_8, nm_p, nm_m, nI_clamp]); first | done | assumption | exact h.sc.k (by decide) | exact h.sc.kb (by omega) | exact h.sc.kbt (by omega) | exact h.sc.kbh (by omega) | exact h.sc.kba (by omega) | exact h.sc.kt (by omega) | exact h.sc.ktl (by omega) | exact h.sc.ks (by omega) | rfl) 5 (by decide) (Or.inr ⟨_, q544⟩) rfl (by exact (h.b B hBB).2.1) dX0_shown_16 ?_
    refine x_iconst (v := 1) hκ dX0_shown_19 (by decide) ?_
    refine x_iload_n hκ dX0_shown_20 rfl ?_
    refine x_ishl hκ dX0_shown_21 ?_
    refine c_callV  hκ (mX0_leastFor h (h.r.2 B hBB) (hR B hBB).2.1 (gth_180 (hR B hBB))) (by omega) (by decide) wX0_434 aX0_leastFor kX0 (by (try simp (disch := omega) only [oS_k, oS_o, oS_a, oS_f, oS_n, aS_k, aS_o, aS_a, aS_f, aS_n, fS_k, fS_o, fS_a, fS_f, fS_n, nO_k, nO_o, nO_a, nA_k, nA_o, nA_a, nA_f, nA_n, nF_k, nF_o, nF_a, nF_f, nF_n, Nat.reduceEqDiff, ↓reduceIte, and_true, true_and, and_false, false_and, reduceCtorEq, xl_0, xl_1, xl_2, nI_add, nI_1, nm_2, nm_3, nm_4, nm_6, nm_7, nm_8, nm_12, nm_16, na_0, na_2, na_3, na_4, na_5, na_6, na_7, na_8, nm_p, nm_m, nI_clamp]); first | done | assumption | exact h.sc.k (by decide) | exact h.sc.kb (by omega) | exact h.sc.kbt (by omega) | exact h.sc.kbh (by omega) | exact h.sc.kba (by omega) | exact h.sc.kt (by omega) | exact h.sc.ktl (by omega) | exact h.sc.ks (by omega) | rfl) rfl (Nat.le_of_ble_eq_true rfl) dX0_shown_22 (jI (fun r22 s22 h22 => ?_))
    refine x_goto (tgt := 29) hκ dX0_shown_25 (by decide) ?_
    refine c_reti hκ hr dX0_shown_29 ?_
    exact ⟨h22.1.uniq h2, γ, CW.pe h22.2 hpe⟩
theorem oX0_bare {E : gE} {L : Nat → Nat} {γ : Gh} {σ : TS} {s : CSt} (h : CW E L γ σ s) (hR : ∀ k, k < 3 → RV σ k (vQ γ k)) {b : Int32} {r2 : Int32} {σ2 : TS} (h2 : (if (0 ≤ b.toInt ∧ b.toInt ≤ 2) ∧ 0 < (vQ γ (Int32.toNatClampNeg b)).length then LeastR (vQ γ (Int32.toNatClampNeg b)) 0 r2 else r2 = -1) ∧ Pe σ σ2) : CMg E s yX0_bare cX0_bare 2 (some .int) 206 0 0 [.ref (L 0), .int b] (cQ E L r2 σ2) := by
  obtain ⟨h2, hpe⟩ := h2
  refine CMg.of (by decide) (Nat.le_of_ble_eq_true rfl) ?_
  rintro κ rfl hL hκ hr
  refine x_aload_n hκ dX0_bare_0 rfl ?_
  refine x_iload_n hκ dX0_bare_1 rfl ?_
  refine x_iconst (v := 0) hκ dX0_bare_2 (by decide) ?_
  refine c_callV  hκ (mX0_isRule h hR) (by omega) (by decide) wX0_430 aX0_isRule kX0 (by (try simp (disch := omega) only [oS_k, oS_o, oS_a, oS_f, oS_n, aS_k, aS_o, aS_a, aS_f, aS_n, fS_k, fS_o, fS_a, fS_f, fS_n, nO_k, nO_o, nO_a, nA_k, nA_o, nA_a, nA_f, nA_n, nF_k, nF_o, nF_a, nF_f, nF_n, Nat.reduceEqDiff, ↓reduceIte, and_true, true_and, and_false, false_and, reduceCtorEq, xl_0, xl_1, xl_2, nI_add, nI_1, nm_2, nm_3, nm_4, nm_6, nm_7, nm_8, nm_12, nm_16, na_0, na_2, na_3, na_4, na_5, na_6, na_7, na_8, nm_p, nm_m, nI_clamp]); first | done | assumption | exact h.sc.k (by decide) | exact h.sc.kb (by omega) | exact h.sc.kbt (by omega) | exact h.sc.kbh (by omega) | exact h.sc.kba (by omega) | exact h.sc.kt (by omega) | exact h.sc.ktl (by omega) | exact h.sc.ks (by omega) | rfl) rfl (Nat.le_of_ble_eq_true rfl) dX0_bare_3 (jIr (fun r3 h3 => ?_))
  refine x_if_eq (tgt := 26) hκ dX0_bare_6 (by decide) (fun c6 => ?_) (fun c6 => ?_)
  · -- X0_bare 6T
    have i6 := h3.f c6
    try simp only [Int32.reduceToInt] at i6
    refine x_iconst (v := (-1)) hκ dX0_bare_26 (by decide) ?_
    refine c_reti hκ hr dX0_bare_27 ?_
    rw [if_neg (fun z => i6 ⟨z.1, by decide, by have e0 : Int32.toInt 0 = 0 := rfl; omega⟩)] at h2
    exact ⟨h2.symm, γ, h.pe hpe⟩
  · -- X0_bare 6F
    have i6 := h3.t c6
    try simp only [Int32.reduceToInt] at i6
    rw [if_pos ⟨i6.1, by have e0 : Int32.toInt 0 = 0 := rfl; omega⟩] at h2
    obtain ⟨B, hB, rfl, -⟩ := i32_nat i6.1
    rw [nI_clamp (by omega)] at h2
    have hBB : B < 3 := by omega
    refine x_aload_n hκ dX0_bare_9 rfl ?_
    refine x_aload_n hκ dX0_bare_10 rfl ?_
    refine c_get hκ kX0 (by (try simp (disch := omega) only [oS_k, oS_o, oS_a, oS_f, oS_n, aS_k, aS_o, aS_a, aS_f, aS_n, fS_k, fS_o, fS_a, fS_f, fS_n, nO_k, nO_o, nO_a, nA_k, nA_o, nA_a, nA_f, nA_n, nF_k, nF_o, nF_a, nF_f, nF_n, Nat.reduceEqDiff, ↓reduceIte, and_true, true_and, and_false, false_and, reduceCtorEq, xl_0, xl_1, xl_2, nI_add, nI_1, nm_2, nm_3, nm_4, nm_6, nm_7, nm_8, nm_12, nm_16, na_0, na_2, na_3, na_4, na_5, na_6, na_7, na_8, nm_p, nm_m, nI_clamp]); first | done | assumption | exact h.sc.k (by decide) | exact h.sc.kb (by omega) | exact h.sc.kbt (by omega) | exact h.sc.kbh (by omega) | exact h.sc.kba (by omega) | exact h.sc.kt (by omega) | exact h.sc.ktl (by omega) | exact h.sc.ks (by omega) | rfl) 7 (by decide) (Or.inl q636) rfl (by (try simp (disch := omega) only [oS_k, oS_o, oS_a, oS_f, oS_n, aS_k, aS_o, aS_a, aS_f, aS_n, fS_k, fS_o, fS_a, fS_f, fS_n, nO_k, nO_o, nO_a, nA_k, nA_o, nA_a, nA_f, nA_n, nF_k, nF_o, nF_a, nF_f, nF_n, Nat.reduceEqDiff, ↓reduceIte, and_true, true_and, and_false, false_and, reduceCtorEq, xl_0, xl_1, xl_2, nI_add, nI_1, nm_2, nm_3, nm_4, nm_6, nm_7, nm_8, nm_12, nm_16, na_0, na_2, na_3, na_4, na_5, na_6, na_7, na_8, nm_p, nm_m, nI_clamp]); first | exact h.sc.o (by decide) rfl | exact h.sc.ob1 (by omega) | exact h.sc.ob2 (by omega) | exact h.sc.ob3 (by omega) | exact h.sc.ot (by omega) | exact h.sc.fb (by omega) | exact h.sc.ft (by omega) (by omega) | exact h.sc.fs (by omega) | exact h.p.1 | exact h.p.2.2.2.2.1 | exact h.p.2.2.2.2.2.1 | exact h.p.2.2.2.2.2.2.1 | exact h.p.2.2.2.2.2.2.2.1 | exact h.p.2.2.2.2.2.2.2.2.1 | exact rfl) dX0_bare_11 ?_
    refine x_iload_n hκ dX0_bare_14 rfl ?_
    refine c_aald (t := 6) hκ (by (try simp (disch := omega) only [oS_k, oS_o, oS_a, oS_f, oS_n, aS_k, aS_o, aS_a, aS_f, aS_n, fS_k, fS_o, fS_a, fS_f, fS_n, nO_k, nO_o, nO_a, nA_k, nA_o, nA_a, nA_f, nA_n, nF_k, nF_o, nF_a, nF_f, nF_n, Nat.reduceEqDiff, ↓reduceIte, and_true, true_and, and_false, false_and, reduceCtorEq, xl_0, xl_1, xl_2, nI_add, nI_1, nm_2, nm_3, nm_4, nm_6, nm_7, nm_8, nm_12, nm_16, na_0, na_2, na_3, na_4, na_5, na_6, na_7, na_8, nm_p, nm_m, nI_clamp]); first | done | assumption | exact h.sc.k (by decide) | exact h.sc.kb (by omega) | exact h.sc.kbt (by omega) | exact h.sc.kbh (by omega) | exact h.sc.kba (by omega) | exact h.sc.kt (by omega) | exact h.sc.ktl (by omega) | exact h.sc.ks (by omega) | rfl) (by decide) (by decide) (by (try simp (disch := omega) only [oS_k, oS_o, oS_a, oS_f, oS_n, aS_k, aS_o, aS_a, aS_f, aS_n, fS_k, fS_o, fS_a, fS_f, fS_n, nO_k, nO_o, nO_a, nA_k, nA_o, nA_a, nA_f, nA_n, nF_k, nF_o, nF_a, nF_f, nF_n, Nat.reduceEqDiff, ↓reduceIte, and_true, true_and, and_false, false_and, reduceCtorEq, xl_0, xl_1, xl_2, nI_add, nI_1, nm_2, nm_3, nm_4, nm_6, nm_7, nm_8, nm_12, nm_16, na_0, na_2, na_3, na_4, na_5, na_6, na_7, na_8, nm_p, nm_m, nI_clamp]); first | exact h.sc.n3 | exact h.sc.n4 | exact h.sc.nbt (by omega) | exact h.sc.nbh (by omega) | exact h.sc.nba (by omega) | exact h.sc.n41 | exact h.sc.n42 | exact h.sc.n43 | exact h.sc.n45 | exact h.sc.n46 | exact h.sc.n48 | exact rfl) (by first | ((with_reducible refine vp_in_nI ?_ ?_) <;> omega) | exact i32_in (by omega) (by omega) | exact i32_in' (by simp only [Int32.toInt_add, Int32.toInt_mul, Int32.toInt_sub, Int32.reduceToInt, Int.bmod_add_bmod, Int.bmod_sub_bmod, Int.add_bmod_bmod, Int.sub_bmod_bmod, Int.bmod_mul_bmod, Int.mul_bmod_bmod]; exact i32_bm (by omega) (by omega)) (by omega) (by omega) | exact i32_in (by decide) (by decide)) (by (try simp (disch := omega) only [oS_k, oS_o, oS_a, oS_f, oS_n, aS_k, aS_o, aS_a, aS_f, aS_n, fS_k, fS_o, fS_a, fS_f, fS_n, nO_k, nO_o, nO_a, nA_k, nA_o, nA_a, nA_f, nA_n, nF_k, nF_o, nF_a, nF_f, nF_n, Nat.reduceEqDiff, ↓reduceIte, and_true, true_and, and_false, false_and, reduceCtorEq, xl_0, xl_1, xl_2, nI_add, nI_1, nm_2, nm_3, nm_4, nm_6, nm_7, nm_8, nm_12, nm_16, na_0, na_2, na_3, na_4, na_5, na_6, na_7, na_8, nm_p, nm_m, nI_clamp]); first | exact h.sc.o (by decide) rfl | exact h.sc.ob1 (by omega) | exact h.sc.ob2 (by omega) | exact h.sc.ob3 (by omega) | exact h.sc.ot (by omega) | exact h.sc.fb (by omega) | exact h.sc.ft (by omega) (by omega) | exact h.sc.fs (by omega) | exact h.p.1 | exact h.p.2.2.2.2.1 | exact h.p.2.2.2.2.2.1 | exact h.p.2.2.2.2.2.2.1 | exact h.p.2.2.2.2.2.2.2.1 | exact h.p.2.2.2.2.2.2.2.2.1 | exact rfl) dX0_bare_15 ?_
    refine c_get hκ kX2 (by (try simp (disch := omega) only [oS_k, oS_o, oS_a, oS_f, oS_n, aS_k, aS_o, aS_a, aS_f, aS_n, fS_k, fS_o, fS_a, fS_f, fS_n, nO_k, nO_o, nO_a, nA_k, nA_o, nA_a, nA_f, nA_n, nF_k, nF_o, nF_a, nF_f, nF_n, Nat.reduceEqDiff, ↓reduceIte, and_true, true_and, and_false, false_and, reduceCtorEq, xl_0, xl_1, xl_2, nI_add, nI_1, nm_2, nm_3, nm_4, nm_6, nm_7, nm_8, nm_12, nm_16, na_0, na_2, na_3, na_4, na_5, na_6, na_7, na_8, nm_p, nm_m, nI_clamp]); first | done | assumption | exact h.sc.k (by decide) | exact h.sc.kb (by omega) | exact h.sc.kbt (by omega) | exact h.sc.kbh (by omega) | exact h.sc.kba (by omega) | exact h.sc.kt (by omega) | exact h.sc.ktl (by omega) | exact h.sc.ks (by omega) | rfl) 5 (by decide) (Or.inr ⟨_, q544⟩) rfl (by exact (h.b B hBB).2.1) dX0_bare_16 ?_
    refine x_iconst (v := 0) hκ dX0_bare_19 (by decide) ?_
    refine c_callV  hκ (mX0_leastFor h (h.r.2 B hBB) (hR B hBB).2.1 (gth_180 (hR B hBB))) (by omega) (by decide) wX0_434 aX0_leastFor kX0 (by (try simp (disch := omega) only [oS_k, oS_o, oS_a, oS_f, oS_n, aS_k, aS_o, aS_a, aS_f, aS_n, fS_k, fS_o, fS_a, fS_f, fS_n, nO_k, nO_o, nO_a, nA_k, nA_o, nA_a, nA_f, nA_n, nF_k, nF_o, nF_a, nF_f, nF_n, Nat.reduceEqDiff, ↓reduceIte, and_true, true_and, and_false, false_and, reduceCtorEq, xl_0, xl_1, xl_2, nI_add, nI_1, nm_2, nm_3, nm_4, nm_6, nm_7, nm_8, nm_12, nm_16, na_0, na_2, na_3, na_4, na_5, na_6, na_7, na_8, nm_p, nm_m, nI_clamp]); first | done | assumption | exact h.sc.k (by decide) | exact h.sc.kb (by omega) | exact h.sc.kbt (by omega) | exact h.sc.kbh (by omega) | exact h.sc.kba (by omega) | exact h.sc.kt (by omega) | exact h.sc.ktl (by omega) | exact h.sc.ks (by omega) | rfl) rfl (Nat.le_of_ble_eq_true rfl) dX0_bare_20 (jI (fun r20 s20 h20 => ?_))
    refine x_goto (tgt := 27) hκ dX0_bare_23 (by decide) ?_
    refine c_reti hκ hr dX0_bare_27 ?_
    exact ⟨h20.1.uniq h2, γ, CW.pe h20.2 hpe⟩
theorem LeastR.n3 {R : Rl} {w z : Int32} (h : LeastR R w z) (h10 : ¬ 10 < (gth (allC R) []).length) : ¬ z = -3 := by
  unfold LeastR at h
  rw [if_neg h10] at h
  rcases h with ⟨c, c1, -, -, rfl⟩ | ⟨-, rfl⟩
  · have hp := pow_10 ⟨(gth (allC R) []).length, by omega⟩
    simp only at hp
    intro z
    have e := nI_toInt (n := c) (by omega)
    rw [z] at e
    simp only [Int32.reduceToInt] at e
    omega
  · decide
theorem oX0_quarrel {E : gE} {L : Nat → Nat} {γ : Gh} {σ : TS} {s : CSt} (h : CW E L γ σ s) (hR : ∀ k, k < 3 → RV σ k (vQ γ k)) {b k m : Int32} {r2 : Int32} {σ2 : TS} (h2 : (if (0 ≤ b.toInt ∧ b.toInt ≤ 2) ∧ (1 ≤ m.toInt ∧ m.toInt < (vQ γ (Int32.toNatClampNeg b)).length) ∧ 0 ≤ k.toInt ∧ k.toInt < m.toInt then (∃ (y : Int32) (p q : List Int32 × List Int32), (vQ γ (Int32.toNatClampNeg b))[Int32.toNatClampNeg k]? = some p ∧ (vQ γ (Int32.toNatClampNeg b))[Int32.toNatClampNeg m]? = some q ∧ LeastR (vQ γ (Int32.toNatClampNeg b)) ((1 <<< (k &&& 31)) ||| (1 <<< (m &&& 31))) y ∧ r2 = if ¬ y = -3 ∧ (fo p.2 0 = 0 ∨ fo q.2 0 = 0 ∨ fo p.2 0 = fo q.2 0) then -4 else y) else r2 = -1) ∧ Pe σ σ2) : CMg E s yX0_quarrel cX0_quarrel 7 (some .int) 206 0 0 [.ref (L 0), .int b, .int k, .int m] (cQ E L r2 σ2) := by
  obtain ⟨h2, hpe⟩ := h2
  refine CMg.of (by decide) (Nat.le_of_ble_eq_true rfl) ?_
  rintro κ rfl hL hκ hr
  refine x_aload_n hκ dX0_quarrel_0 rfl ?_
  refine x_iload_n hκ dX0_quarrel_1 rfl ?_
  refine x_iload_n hκ dX0_quarrel_2 rfl ?_
  refine c_callV  hκ (mX0_isRule h hR) (by omega) (by decide) wX0_430 aX0_isRule kX0 (by (try simp (disch := omega) only [oS_k, oS_o, oS_a, oS_f, oS_n, aS_k, aS_o, aS_a, aS_f, aS_n, fS_k, fS_o, fS_a, fS_f, fS_n, nO_k, nO_o, nO_a, nA_k, nA_o, nA_a, nA_f, nA_n, nF_k, nF_o, nF_a, nF_f, nF_n, Nat.reduceEqDiff, ↓reduceIte, and_true, true_and, and_false, false_and, reduceCtorEq, xl_0, xl_1, xl_2, nI_add, nI_1, nm_2, nm_3, nm_4, nm_6, nm_7, nm_8, nm_12, nm_16, na_0, na_2, na_3, na_4, na_5, na_6, na_7, na_8, nm_p, nm_m, nI_clamp]); first | done | assumption | exact h.sc.k (by decide) | exact h.sc.kb (by omega) | exact h.sc.kbt (by omega) | exact h.sc.kbh (by omega) | exact h.sc.kba (by omega) | exact h.sc.kt (by omega) | exact h.sc.ktl (by omega) | exact h.sc.ks (by omega) | rfl) rfl (Nat.le_of_ble_eq_true rfl) dX0_quarrel_3 (jIr (fun r3 h3 => ?_))
  refine x_if_eq (tgt := 23) hκ dX0_quarrel_6 (by decide) (fun c6 => ?_) (fun c6 => ?_)
  · -- X0_quarrel 6T
    have i6 := h3.f c6
    try simp only [Int32.reduceToInt] at i6
    refine x_iconst (v := (-1)) hκ dX0_quarrel_23 (by decide) ?_
    refine c_reti hκ hr dX0_quarrel_24 ?_
    rw [if_neg (fun z => i6 ⟨z.1, z.2.2.1, by omega⟩)] at h2
    exact ⟨h2.symm, γ, h.pe hpe⟩
  · -- X0_quarrel 6F
    have i6 := h3.t c6
    try simp only [Int32.reduceToInt] at i6
    refine x_aload_n hκ dX0_quarrel_9 rfl ?_
    refine x_iload_n hκ dX0_quarrel_10 rfl ?_
    refine x_iload_n hκ dX0_quarrel_11 rfl ?_
    refine c_callV  hκ (mX0_isRule h hR) (by omega) (by decide) wX0_430 aX0_isRule kX0 (by (try simp (disch := omega) only [oS_k, oS_o, oS_a, oS_f, oS_n, aS_k, aS_o, aS_a, aS_f, aS_n, fS_k, fS_o, fS_a, fS_f, fS_n, nO_k, nO_o, nO_a, nA_k, nA_o, nA_a, nA_f, nA_n, nF_k, nF_o, nF_a, nF_f, nF_n, Nat.reduceEqDiff, ↓reduceIte, and_true, true_and, and_false, false_and, reduceCtorEq, xl_0, xl_1, xl_2, nI_add, nI_1, nm_2, nm_3, nm_4, nm_6, nm_7, nm_8, nm_12, nm_16, na_0, na_2, na_3, na_4, na_5, na_6, na_7, na_8, nm_p, nm_m, nI_clamp]); first | done | assumption | exact h.sc.k (by decide) | exact h.sc.kb (by omega) | exact h.sc.kbt (by omega) | exact h.sc.kbh (by omega) | exact h.sc.kba (by omega) | exact h.sc.kt (by omega) | exact h.sc.ktl (by omega) | exact h.sc.ks (by omega) | rfl) rfl (Nat.le_of_ble_eq_true rfl) dX0_quarrel_12 (jIr (fun r12 h12 => ?_))
    refine x_if_eq (tgt := 23) hκ dX0_quarrel_15 (by decide) (fun c15 => ?_) (fun c15 => ?_)
    · -- X0_quarrel 15T
      have i15 := h12.f c15
      try simp only [Int32.reduceToInt] at i15
      refine x_iconst (v := (-1)) hκ dX0_quarrel_23 (by decide) ?_
      refine c_reti hκ hr dX0_quarrel_24 ?_
      rw [if_neg (fun z => i15 ⟨z.1, by omega, z.2.1.2⟩)] at h2
      exact ⟨h2.symm, γ, h.pe hpe⟩
    · -- X0_quarrel 15F
      have i15 := h12.t c15
      try simp only [Int32.reduceToInt] at i15
      refine x_iload_n hκ dX0_quarrel_18 rfl ?_
      refine x_iload_n hκ dX0_quarrel_19 rfl ?_
      refine x_icmp_lt (tgt := 25) hκ dX0_quarrel_20 (by decide) (fun c20 => ?_) (fun c20 => ?_)
      · -- X0_quarrel 20T
        have i20 := c20
        simp (disch := omega) only [i32_lt, i32_le, i32_eq, Int32.reduceToInt, nI_toInt] at i20
        rw [if_pos ⟨i6.1, ⟨by omega, i15.2.2⟩, i6.2.1, by omega⟩] at h2
        obtain ⟨B, hB, rfl, -⟩ := i32_nat i6.1
        rw [nI_clamp (by omega)] at h2 i6 i15
        have hBB : B < 3 := by omega
        have hl6 := (hR B hBB).2.1
        obtain ⟨K, hK, rfl, -⟩ := i32_nat (m := k.toInt) ⟨i6.2.1, Int.le_refl _⟩
        obtain ⟨M, hM, rfl, -⟩ := i32_nat (m := m.toInt) ⟨i15.2.1, Int.le_refl _⟩
        obtain ⟨y, p, q, y1, y2, y3, y4⟩ := h2
        have hrk := i32_rg (nI K)
        have hrm := i32_rg (nI M)
        rw [nI_clamp (by omega)] at y1 y2
        have hKl := (List.getElem?_eq_some_iff.mp y1).1
        have hMl := (List.getElem?_eq_some_iff.mp y2).1
        obtain ⟨h1, h2, l1, l2, a1, a2, e2, g1, g2, g3, g4, g5, g6, g7, g8, g9, g10⟩ := id (h.r.2 B hBB)
        have ga := gth_180 (hR B hBB)
        refine x_aload_n hκ dX0_quarrel_25 rfl ?_
        refine c_get hκ kX0 (by (try simp (disch := omega) only [oS_k, oS_o, oS_a, oS_f, oS_n, aS_k, aS_o, aS_a, aS_f, aS_n, fS_k, fS_o, fS_a, fS_f, fS_n, nO_k, nO_o, nO_a, nA_k, nA_o, nA_a, nA_f, nA_n, nF_k, nF_o, nF_a, nF_f, nF_n, Nat.reduceEqDiff, ↓reduceIte, and_true, true_and, and_false, false_and, reduceCtorEq, xl_0, xl_1, xl_2, nI_add, nI_1, nm_2, nm_3, nm_4, nm_6, nm_7, nm_8, nm_12, nm_16, na_0, na_2, na_3, na_4, na_5, na_6, na_7, na_8, nm_p, nm_m, nI_clamp]); first | done | assumption | exact h.sc.k (by decide) | exact h.sc.kb (by omega) | exact h.sc.kbt (by omega) | exact h.sc.kbh (by omega) | exact h.sc.kba (by omega) | exact h.sc.kt (by omega) | exact h.sc.ktl (by omega) | exact h.sc.ks (by omega) | rfl) 7 (by decide) (Or.inl q636) rfl (by (try simp (disch := omega) only [oS_k, oS_o, oS_a, oS_f, oS_n, aS_k, aS_o, aS_a, aS_f, aS_n, fS_k, fS_o, fS_a, fS_f, fS_n, nO_k, nO_o, nO_a, nA_k, nA_o, nA_a, nA_f, nA_n, nF_k, nF_o, nF_a, nF_f, nF_n, Nat.reduceEqDiff, ↓reduceIte, and_true, true_and, and_false, false_and, reduceCtorEq, xl_0, xl_1, xl_2, nI_add, nI_1, nm_2, nm_3, nm_4, nm_6, nm_7, nm_8, nm_12, nm_16, na_0, na_2, na_3, na_4, na_5, na_6, na_7, na_8, nm_p, nm_m, nI_clamp]); first | exact h.sc.o (by decide) rfl | exact h.sc.ob1 (by omega) | exact h.sc.ob2 (by omega) | exact h.sc.ob3 (by omega) | exact h.sc.ot (by omega) | exact h.sc.fb (by omega) | exact h.sc.ft (by omega) (by omega) | exact h.sc.fs (by omega) | exact h.p.1 | exact h.p.2.2.2.2.1 | exact h.p.2.2.2.2.2.1 | exact h.p.2.2.2.2.2.2.1 | exact h.p.2.2.2.2.2.2.2.1 | exact h.p.2.2.2.2.2.2.2.2.1 | exact rfl) dX0_quarrel_26 ?_
        refine x_iload_n hκ dX0_quarrel_29 rfl ?_
        refine c_aald (t := 6) hκ (by (try simp (disch := omega) only [oS_k, oS_o, oS_a, oS_f, oS_n, aS_k, aS_o, aS_a, aS_f, aS_n, fS_k, fS_o, fS_a, fS_f, fS_n, nO_k, nO_o, nO_a, nA_k, nA_o, nA_a, nA_f, nA_n, nF_k, nF_o, nF_a, nF_f, nF_n, Nat.reduceEqDiff, ↓reduceIte, and_true, true_and, and_false, false_and, reduceCtorEq, xl_0, xl_1, xl_2, nI_add, nI_1, nm_2, nm_3, nm_4, nm_6, nm_7, nm_8, nm_12, nm_16, na_0, na_2, na_3, na_4, na_5, na_6, na_7, na_8, nm_p, nm_m, nI_clamp]); first | done | assumption | exact h.sc.k (by decide) | exact h.sc.kb (by omega) | exact h.sc.kbt (by omega) | exact h.sc.kbh (by omega) | exact h.sc.kba (by omega) | exact h.sc.kt (by omega) | exact h.sc.ktl (by omega) | exact h.sc.ks (by omega) | rfl) (by decide) (by decide) (by (try simp (disch := omega) only [oS_k, oS_o, oS_a, oS_f, oS_n, aS_k, aS_o, aS_a, aS_f, aS_n, fS_k, fS_o, fS_a, fS_f, fS_n, nO_k, nO_o, nO_a, nA_k, nA_o, nA_a, nA_f, nA_n, nF_k, nF_o, nF_a, nF_f, nF_n, Nat.reduceEqDiff, ↓reduceIte, and_true, true_and, and_false, false_and, reduceCtorEq, xl_0, xl_1, xl_2, nI_add, nI_1, nm_2, nm_3, nm_4, nm_6, nm_7, nm_8, nm_12, nm_16, na_0, na_2, na_3, na_4, na_5, na_6, na_7, na_8, nm_p, nm_m, nI_clamp]); first | exact h.sc.n3 | exact h.sc.n4 | exact h.sc.nbt (by omega) | exact h.sc.nbh (by omega) | exact h.sc.nba (by omega) | exact h.sc.n41 | exact h.sc.n42 | exact h.sc.n43 | exact h.sc.n45 | exact h.sc.n46 | exact h.sc.n48 | exact rfl) (by first | ((with_reducible refine vp_in_nI ?_ ?_) <;> omega) | exact i32_in (by omega) (by omega) | exact i32_in' (by simp only [Int32.toInt_add, Int32.toInt_mul, Int32.toInt_sub, Int32.reduceToInt, Int.bmod_add_bmod, Int.bmod_sub_bmod, Int.add_bmod_bmod, Int.sub_bmod_bmod, Int.bmod_mul_bmod, Int.mul_bmod_bmod]; exact i32_bm (by omega) (by omega)) (by omega) (by omega) | exact i32_in (by decide) (by decide)) (by (try simp (disch := omega) only [oS_k, oS_o, oS_a, oS_f, oS_n, aS_k, aS_o, aS_a, aS_f, aS_n, fS_k, fS_o, fS_a, fS_f, fS_n, nO_k, nO_o, nO_a, nA_k, nA_o, nA_a, nA_f, nA_n, nF_k, nF_o, nF_a, nF_f, nF_n, Nat.reduceEqDiff, ↓reduceIte, and_true, true_and, and_false, false_and, reduceCtorEq, xl_0, xl_1, xl_2, nI_add, nI_1, nm_2, nm_3, nm_4, nm_6, nm_7, nm_8, nm_12, nm_16, na_0, na_2, na_3, na_4, na_5, na_6, na_7, na_8, nm_p, nm_m, nI_clamp]); first | exact h.sc.o (by decide) rfl | exact h.sc.ob1 (by omega) | exact h.sc.ob2 (by omega) | exact h.sc.ob3 (by omega) | exact h.sc.ot (by omega) | exact h.sc.fb (by omega) | exact h.sc.ft (by omega) (by omega) | exact h.sc.fs (by omega) | exact h.p.1 | exact h.p.2.2.2.2.1 | exact h.p.2.2.2.2.2.1 | exact h.p.2.2.2.2.2.2.1 | exact h.p.2.2.2.2.2.2.2.1 | exact h.p.2.2.2.2.2.2.2.2.1 | exact rfl) dX0_quarrel_30 ?_
        refine c_get hκ kX2 (by (try simp (disch := omega) only [oS_k, oS_o, oS_a, oS_f, oS_n, aS_k, aS_o, aS_a, aS_f, aS_n, fS_k, fS_o, fS_a, fS_f, fS_n, nO_k, nO_o, nO_a, nA_k, nA_o, nA_a, nA_f, nA_n, nF_k, nF_o, nF_a, nF_f, nF_n, Nat.reduceEqDiff, ↓reduceIte, and_true, true_and, and_false, false_and, reduceCtorEq, xl_0, xl_1, xl_2, nI_add, nI_1, nm_2, nm_3, nm_4, nm_6, nm_7, nm_8, nm_12, nm_16, na_0, na_2, na_3, na_4, na_5, na_6, na_7, na_8, nm_p, nm_m, nI_clamp]); first | done | assumption | exact h.sc.k (by decide) | exact h.sc.kb (by omega) | exact h.sc.kbt (by omega) | exact h.sc.kbh (by omega) | exact h.sc.kba (by omega) | exact h.sc.kt (by omega) | exact h.sc.ktl (by omega) | exact h.sc.ks (by omega) | rfl) 5 (by decide) (Or.inr ⟨_, q544⟩) rfl (by exact (h.b B hBB).2.1) dX0_quarrel_31 ?_
        refine x_astore hκ dX0_quarrel_34 (by rw [hL]; decide) rfl ?_
        refine x_aload hκ dX0_quarrel_36 rfl ?_
        refine c_get hκ kX4 (by exact h2) 0 (by decide) (Or.inr ⟨_, q162⟩) rfl (by exact g1) dX0_quarrel_38 ?_
        refine x_iload_n hκ dX0_quarrel_41 rfl ?_
        refine c_callF  hκ (mJ2_get g7 hKl) (by omega) (by decide) vX0_105_J2 fJ2_get kJ2 (by exact g7.1) rfl (Nat.le_of_ble_eq_true rfl) dX0_quarrel_42 (jRr (fun r42 h42 => ?_))
        subst h42
        refine c_cast hκ kX9 (by exact (g9 K p y1).2.1) q174 dX0_quarrel_47 ?_
        refine c_callV  hκ (mX9_files (d := 0) (g9 K p y1)) (by omega) (by decide) wX0_438 aX9_files kX9 (by exact (g9 K p y1).2.1) rfl (Nat.le_of_ble_eq_true rfl) dX0_quarrel_50 (jIr (fun r50 h50 => ?_))
        subst h50
        refine x_istore hκ dX0_quarrel_53 (by rw [hL]; decide) rfl ?_
        refine x_aload hκ dX0_quarrel_55 rfl ?_
        refine c_get hκ kX4 (by exact h2) 0 (by decide) (Or.inr ⟨_, q162⟩) rfl (by exact g1) dX0_quarrel_57 ?_
        refine x_iload_n hκ dX0_quarrel_60 rfl ?_
        refine c_callF  hκ (mJ2_get g7 hMl) (by omega) (by decide) vX0_105_J2 fJ2_get kJ2 (by exact g7.1) rfl (Nat.le_of_ble_eq_true rfl) dX0_quarrel_61 (jRr (fun r61 h61 => ?_))
        subst h61
        refine c_cast hκ kX9 (by exact (g9 M q y2).2.1) q174 dX0_quarrel_66 ?_
        refine c_callV  hκ (mX9_files (d := 0) (g9 M q y2)) (by omega) (by decide) wX0_438 aX9_files kX9 (by exact (g9 M q y2).2.1) rfl (Nat.le_of_ble_eq_true rfl) dX0_quarrel_69 (jIr (fun r69 h69 => ?_))
        subst h69
        refine x_istore hκ dX0_quarrel_72 (by rw [hL]; decide) rfl ?_
        refine x_aload hκ dX0_quarrel_74 rfl ?_
        refine c_get hκ kX4 (by exact h2) 1 (by decide) (Or.inr ⟨_, q164⟩) rfl (by exact g2) dX0_quarrel_76 ?_
        refine c_callF  hκ (mJ2_size g8) (by omega) (by decide) vX0_100_J2 fJ2_size kJ2 (by exact g8.1) rfl (Nat.le_of_ble_eq_true rfl) dX0_quarrel_79 (jIr (fun r79 h79 => ?_))
        subst h79
        refine x_bipush (v := 10) hκ dX0_quarrel_84 (by decide) ?_
        refine x_icmp_le (tgt := 92) hκ dX0_quarrel_86 (by decide) (fun c86 => ?_) (fun c86 => ?_)
        · -- X0_quarrel 86T
          have i86 := c86
          simp (disch := omega) only [i32_lt, i32_le, i32_eq, Int32.reduceToInt, nI_toInt] at i86
          have n3 := y3.n3 (by omega)
          refine x_iload hκ dX0_quarrel_92 rfl ?_
          refine x_if_eq (tgt := 109) hκ dX0_quarrel_94 (by decide) (fun c94 => ?_) (fun c94 => ?_)
          · -- X0_quarrel 94T
            have i94 := c94
            simp (disch := omega) only [i32_lt, i32_le, i32_eq, Int32.reduceToInt, nI_toInt] at i94
            refine x_bipush (v := (-4)) hκ dX0_quarrel_109 (by decide) ?_
            refine x_goto (tgt := 127) hκ dX0_quarrel_111 (by decide) ?_
            refine c_reti hκ hr dX0_quarrel_127 ?_
            rw [if_pos ⟨n3, Or.inl c94⟩] at y4
            exact ⟨y4.symm, γ, h.pe hpe⟩
          · -- X0_quarrel 94F
            have i94 := c94
            simp (disch := omega) only [i32_lt, i32_le, i32_eq, Int32.reduceToInt, nI_toInt] at i94
            refine x_iload hκ dX0_quarrel_97 rfl ?_
            refine x_if_eq (tgt := 109) hκ dX0_quarrel_99 (by decide) (fun c99 => ?_) (fun c99 => ?_)
            · -- X0_quarrel 99T
              have i99 := c99
              simp (disch := omega) only [i32_lt, i32_le, i32_eq, Int32.reduceToInt, nI_toInt] at i99
              refine x_bipush (v := (-4)) hκ dX0_quarrel_109 (by decide) ?_
              refine x_goto (tgt := 127) hκ dX0_quarrel_111 (by decide) ?_
              refine c_reti hκ hr dX0_quarrel_127 ?_
              rw [if_pos ⟨n3, Or.inr (Or.inl c99)⟩] at y4
              exact ⟨y4.symm, γ, h.pe hpe⟩
            · -- X0_quarrel 99F
              have i99 := c99
              simp (disch := omega) only [i32_lt, i32_le, i32_eq, Int32.reduceToInt, nI_toInt] at i99
              refine x_iload hκ dX0_quarrel_102 rfl ?_
              refine x_iload hκ dX0_quarrel_104 rfl ?_
              refine x_icmp_ne (tgt := 114) hκ dX0_quarrel_106 (by decide) (fun c106 => ?_) (fun c106 => ?_)
              · -- X0_quarrel 106T
                have i106 := c106
                simp (disch := omega) only [i32_lt, i32_le, i32_eq, Int32.reduceToInt, nI_toInt] at i106
                refine x_aload_n hκ dX0_quarrel_114 rfl ?_
                refine x_aload hκ dX0_quarrel_115 rfl ?_
                refine x_iconst (v := 1) hκ dX0_quarrel_117 (by decide) ?_
                refine x_iload_n hκ dX0_quarrel_118 rfl ?_
                refine x_ishl hκ dX0_quarrel_119 ?_
                refine x_iconst (v := 1) hκ dX0_quarrel_120 (by decide) ?_
                refine x_iload_n hκ dX0_quarrel_121 rfl ?_
                refine x_ishl hκ dX0_quarrel_122 ?_
                refine x_ior hκ dX0_quarrel_123 ?_
                refine c_callV  hκ (mX0_leastFor h (h.r.2 B hBB) hl6 ga) (by omega) (by decide) wX0_434 aX0_leastFor kX0 (by (try simp (disch := omega) only [oS_k, oS_o, oS_a, oS_f, oS_n, aS_k, aS_o, aS_a, aS_f, aS_n, fS_k, fS_o, fS_a, fS_f, fS_n, nO_k, nO_o, nO_a, nA_k, nA_o, nA_a, nA_f, nA_n, nF_k, nF_o, nF_a, nF_f, nF_n, Nat.reduceEqDiff, ↓reduceIte, and_true, true_and, and_false, false_and, reduceCtorEq, xl_0, xl_1, xl_2, nI_add, nI_1, nm_2, nm_3, nm_4, nm_6, nm_7, nm_8, nm_12, nm_16, na_0, na_2, na_3, na_4, na_5, na_6, na_7, na_8, nm_p, nm_m, nI_clamp]); first | done | assumption | exact h.sc.k (by decide) | exact h.sc.kb (by omega) | exact h.sc.kbt (by omega) | exact h.sc.kbh (by omega) | exact h.sc.kba (by omega) | exact h.sc.kt (by omega) | exact h.sc.ktl (by omega) | exact h.sc.ks (by omega) | rfl) rfl (Nat.le_of_ble_eq_true rfl) dX0_quarrel_124 (jI (fun r124 s124 h124 => ?_))
                refine c_reti hκ hr dX0_quarrel_127 ?_
                rw [if_neg (fun z => by rcases z.2 with w | w | w; exact c94 w; exact c99 w; exact c106 w)] at y4
                exact ⟨(h124.1.uniq y3).trans y4.symm, γ, CW.pe h124.2 hpe⟩
              · -- X0_quarrel 106F
                have i106 := c106
                simp (disch := omega) only [i32_lt, i32_le, i32_eq, Int32.reduceToInt, nI_toInt] at i106
                refine x_bipush (v := (-4)) hκ dX0_quarrel_109 (by decide) ?_
                refine x_goto (tgt := 127) hκ dX0_quarrel_111 (by decide) ?_
                refine c_reti hκ hr dX0_quarrel_127 ?_
                rw [if_pos ⟨n3, Or.inr (Or.inr c106)⟩] at y4
                exact ⟨y4.symm, γ, h.pe hpe⟩
        · -- X0_quarrel 86F
          have i86 := c86
          simp (disch := omega) only [i32_lt, i32_le, i32_eq, Int32.reduceToInt, nI_toInt] at i86
          refine x_bipush (v := (-3)) hκ dX0_quarrel_89 (by decide) ?_
          refine c_reti hκ hr dX0_quarrel_91 ?_
          have e3 : y = -3 := by have := y3; unfold LeastR at this; rw [if_pos (by omega)] at this; exact this
          rw [if_neg (fun z => z.1 e3), e3] at y4
          exact ⟨y4.symm, γ, h.pe hpe⟩
      · -- X0_quarrel 20F
        have i20 := c20
        simp (disch := omega) only [i32_lt, i32_le, i32_eq, Int32.reduceToInt, nI_toInt] at i20
        refine x_iconst (v := (-1)) hκ dX0_quarrel_23 (by decide) ?_
        refine c_reti hκ hr dX0_quarrel_24 ?_
        rw [if_neg (fun z => by omega)] at h2
        exact ⟨h2.symm, γ, h.pe hpe⟩
