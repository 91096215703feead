theorem wX0_384 : GoodIn lw_all (wsV RX0 384 RX0 yX0_copyAt (ws_ yX0_copyAt cX0_copyAt 5 (some (FieldType.object "SortedPost$Copy")))) := lw_V q946 q948 qs26 q69 q949
theorem aX0_copyAt : yX0_copyAt.cls = RX0 ∧ yX0_copyAt.cls ≠ "java/lang/invoke/MethodHandle" ∧ yX0_copyAt.cls ≠ "java/lang/invoke/VarHandle" ∧ (parseMethodDescriptor yX0_copyAt.desc).map (fun d => d.parameters.length) = some 3 := by decide +kernel
/-! the component: copies -/
theorem CWc.cp {E : gE} {L : Nat → Nat} {γ : Gh} {σ : TS} {c : Int32} {s : CSt} (h : CWc E L γ σ c s) {t i : Nat} (ht : t < 12) (hi : i < vT γ t) : CpA γ σ s t i := (h.t t ht).2.2.2.2 i hi
theorem CWc.obL {E : gE} {L : Nat → Nat} {γ : Gh} {σ : TS} {c : Int32} {s : CSt} (h : CWc E L γ σ c s) {k : Nat} (hk : k < vN γ) : ObK s (vL γ k) := ⟨14, _, _, _, _, kX16, (h.lt hk).1, by exact q1614⟩
theorem CWc.obC {E : gE} {L : Nat → Nat} {γ : Gh} {σ : TS} {c : Int32} {s : CSt} (h : CWc E L γ σ c s) {t i : Nat} (ht : t < 12) (hi : i < vT γ t) : ObK s (vC γ t i) := ⟨15, _, _, _, _, kX17, (h.cp ht hi).1, by exact q1629⟩
theorem isCp_nat {σ : TS} {b t i : Int32} (h : isCp σ b t i) : ∃ B T I : Nat, b = nI B ∧ B < 3 ∧ t = nI T ∧ T < 4 ∧ i = nI I ∧ (I : Int) < (σ.2 40 (4 * B + T)).toInt := by
  obtain ⟨⟨h1, h2⟩, h3, h4⟩ := h
  obtain ⟨B, hB, rfl, -⟩ := i32_nat h1
  obtain ⟨T, hT, rfl, -⟩ := i32_nat h2
  rw [cl_4bt (by omega) (by omega)] at h4
  have hr := i32_rg (σ.2 40 (4 * B + T))
  obtain ⟨I, hI, rfl, -⟩ := i32_nat (m := i.toInt) ⟨h3, Int.le_refl _⟩
  have hri := i32_rg (nI I)
  have e : (nI I).toInt = I := nI_toInt (by omega)
  exact ⟨B, T, I, rfl, by omega, rfl, by omega, rfl, by omega⟩
/-- what copyAt answers -/
def cpQ (γ : Gh) (σ : TS) (b t i : Int32) (r : Option Nat) : Prop := (∃ B T I : Nat, b = nI B ∧ B < 3 ∧ t = nI T ∧ T < 4 ∧ i = nI I ∧ I < vT γ (4 * B + T) ∧ isCp σ b t i ∧ r = some (vC γ (4 * B + T) I)) ∨ (¬ isCp σ b t i ∧ r = none)
theorem mX0_copyAt {E : gE} {L : Nat → Nat} {γ : Gh} {σ : TS} {c : Int32} {s : CSt} (h : CWc E L γ σ c s) {b t i : Int32} : CMg E s yX0_copyAt cX0_copyAt 5 (some (.object "SortedPost$Copy")) 4 0 0 [.ref (L 0), .int b, .int t, .int i] (qO (fun r s' => cpQ γ σ b t i r ∧ s' = s)) := by
  refine CMg.of (by decide) (Nat.le_of_ble_eq_true rfl) ?_
  rintro κ rfl hL hκ hr
  refine x_iload_n hκ dX0_copyAt_0 rfl ?_
  refine x_callSi hκ mX0_isBox (by omega) (by decide) wX0_148 aX0_isBox rfl (Nat.le_of_ble_eq_true rfl) dX0_copyAt_1 (fun r1 h1 => ?_)
  refine x_if_eq (tgt := 14) hκ dX0_copyAt_4 (by decide) (fun c4 => ?_) (fun c4 => ?_)
  · -- X0_copyAt 4T
    have i4 := h1.f c4
    try simp only [Int32.reduceToInt] at i4
    refine x_null hκ dX0_copyAt_14 ?_
    refine c_reto (x := none) hκ hr (Or.inl ⟨_, rfl⟩) dX0_copyAt_15 ?_
    exact ⟨Or.inr ⟨fun z => i4 z.1.1, rfl⟩, rfl⟩
  · -- X0_copyAt 4F
    have i4 := h1.t c4
    try simp only [Int32.reduceToInt] at i4
    refine x_iload_n hκ dX0_copyAt_7 rfl ?_
    refine x_callSi hκ mX0_isTray (by omega) (by decide) wX0_217 aX0_isTray rfl (Nat.le_of_ble_eq_true rfl) dX0_copyAt_8 (fun r8 h8 => ?_)
    refine x_if_ne (tgt := 16) hκ dX0_copyAt_11 (by decide) (fun c11 => ?_) (fun c11 => ?_)
    · -- X0_copyAt 11T
      have i11 := h8.t c11
      try simp only [Int32.reduceToInt] at i11
      obtain ⟨B, hB, rfl, -⟩ := i32_nat i4
      obtain ⟨T, hT, rfl, -⟩ := i32_nat i11
      have hTT : 4 * B + T < 12 := by omega
      have hn := (h.t _ hTT).2.2.1
      have h40 : (σ.2 40 (4 * B + T)).toInt = vT γ (4 * B + T) := by rw [(h.t _ hTT).2.1, nI_toInt (by omega)]
      refine x_aload_n hκ dX0_copyAt_16 rfl ?_
      refine c_get hκ kX0 (by (try simp (disch := omega) only [oS_k, oS_o, oS_a, oS_f, oS_n, aS_k, aS_o, aS_a, aS_f, aS_n, fS_k, fS_o, fS_a, fS_f, fS_n, nO_k, nO_o, nO_a, nA_k, nA_o, nA_a, nA_f, nA_n, nF_k, nF_o, nF_a, nF_f, nF_n, Nat.reduceEqDiff, ↓reduceIte, and_true, true_and, and_false, false_and, reduceCtorEq, xl_0, xl_1, xl_2, nI_add, nI_1, nm_2, nm_3, nm_4, nm_6, nm_7, nm_8, nm_12, nm_16, na_0, na_2, na_3, na_4, na_5, na_6, na_7, na_8, nm_p, nm_m, nI_clamp]); first | done | assumption | exact h.sc.k (by decide) | exact h.sc.kb (by omega) | exact h.sc.kbt (by omega) | exact h.sc.kbh (by omega) | exact h.sc.kba (by omega) | exact h.sc.kt (by omega) | exact h.sc.ktl (by omega) | exact h.sc.ks (by omega) | rfl) 7 (by decide) (Or.inl q636) rfl (by (try simp (disch := omega) only [oS_k, oS_o, oS_a, oS_f, oS_n, aS_k, aS_o, aS_a, aS_f, aS_n, fS_k, fS_o, fS_a, fS_f, fS_n, nO_k, nO_o, nO_a, nA_k, nA_o, nA_a, nA_f, nA_n, nF_k, nF_o, nF_a, nF_f, nF_n, Nat.reduceEqDiff, ↓reduceIte, and_true, true_and, and_false, false_and, reduceCtorEq, xl_0, xl_1, xl_2, nI_add, nI_1, nm_2, nm_3, nm_4, nm_6, nm_7, nm_8, nm_12, nm_16, na_0, na_2, na_3, na_4, na_5, na_6, na_7, na_8, nm_p, nm_m, nI_clamp]); first | exact h.sc.o (by decide) rfl | exact h.sc.ob1 (by omega) | exact h.sc.ob2 (by omega) | exact h.sc.ob3 (by omega) | exact h.sc.ot (by omega) | exact h.sc.fb (by omega) | exact h.sc.ft (by omega) (by omega) | exact h.sc.fs (by omega) | exact h.p.1 | exact h.p.2.2.2.2.1 | exact h.p.2.2.2.2.2.1 | exact h.p.2.2.2.2.2.2.1 | exact h.p.2.2.2.2.2.2.2.1 | exact h.p.2.2.2.2.2.2.2.2.1 | exact rfl) dX0_copyAt_17 ?_
      refine x_iload_n hκ dX0_copyAt_20 rfl ?_
      refine c_aald (t := 6) hκ (by (try simp (disch := omega) only [oS_k, oS_o, oS_a, oS_f, oS_n, aS_k, aS_o, aS_a, aS_f, aS_n, fS_k, fS_o, fS_a, fS_f, fS_n, nO_k, nO_o, nO_a, nA_k, nA_o, nA_a, nA_f, nA_n, nF_k, nF_o, nF_a, nF_f, nF_n, Nat.reduceEqDiff, ↓reduceIte, and_true, true_and, and_false, false_and, reduceCtorEq, xl_0, xl_1, xl_2, nI_add, nI_1, nm_2, nm_3, nm_4, nm_6, nm_7, nm_8, nm_12, nm_16, na_0, na_2, na_3, na_4, na_5, na_6, na_7, na_8, nm_p, nm_m, nI_clamp]); first | done | assumption | exact h.sc.k (by decide) | exact h.sc.kb (by omega) | exact h.sc.kbt (by omega) | exact h.sc.kbh (by omega) | exact h.sc.kba (by omega) | exact h.sc.kt (by omega) | exact h.sc.ktl (by omega) | exact h.sc.ks (by omega) | rfl) (by decide) (by decide) (by (try simp (disch := omega) only [oS_k, oS_o, oS_a, oS_f, oS_n, aS_k, aS_o, aS_a, aS_f, aS_n, fS_k, fS_o, fS_a, fS_f, fS_n, nO_k, nO_o, nO_a, nA_k, nA_o, nA_a, nA_f, nA_n, nF_k, nF_o, nF_a, nF_f, nF_n, Nat.reduceEqDiff, ↓reduceIte, and_true, true_and, and_false, false_and, reduceCtorEq, xl_0, xl_1, xl_2, nI_add, nI_1, nm_2, nm_3, nm_4, nm_6, nm_7, nm_8, nm_12, nm_16, na_0, na_2, na_3, na_4, na_5, na_6, na_7, na_8, nm_p, nm_m, nI_clamp]); first | exact h.sc.n3 | exact h.sc.n4 | exact h.sc.nbt (by omega) | exact h.sc.nbh (by omega) | exact h.sc.nba (by omega) | exact h.sc.n41 | exact h.sc.n42 | exact h.sc.n43 | exact h.sc.n45 | exact h.sc.n46 | exact h.sc.n48 | exact rfl) (by first | ((with_reducible refine vp_in_nI ?_ ?_) <;> omega) | exact i32_in (by omega) (by omega) | exact i32_in' (by simp only [Int32.toInt_add, Int32.toInt_mul, Int32.toInt_sub, Int32.reduceToInt, Int.bmod_add_bmod, Int.bmod_sub_bmod, Int.add_bmod_bmod, Int.sub_bmod_bmod, Int.bmod_mul_bmod, Int.mul_bmod_bmod]; exact i32_bm (by omega) (by omega)) (by omega) (by omega) | exact i32_in (by decide) (by decide)) (by (try simp (disch := omega) only [oS_k, oS_o, oS_a, oS_f, oS_n, aS_k, aS_o, aS_a, aS_f, aS_n, fS_k, fS_o, fS_a, fS_f, fS_n, nO_k, nO_o, nO_a, nA_k, nA_o, nA_a, nA_f, nA_n, nF_k, nF_o, nF_a, nF_f, nF_n, Nat.reduceEqDiff, ↓reduceIte, and_true, true_and, and_false, false_and, reduceCtorEq, xl_0, xl_1, xl_2, nI_add, nI_1, nm_2, nm_3, nm_4, nm_6, nm_7, nm_8, nm_12, nm_16, na_0, na_2, na_3, na_4, na_5, na_6, na_7, na_8, nm_p, nm_m, nI_clamp]); first | exact h.sc.o (by decide) rfl | exact h.sc.ob1 (by omega) | exact h.sc.ob2 (by omega) | exact h.sc.ob3 (by omega) | exact h.sc.ot (by omega) | exact h.sc.fb (by omega) | exact h.sc.ft (by omega) (by omega) | exact h.sc.fs (by omega) | exact h.p.1 | exact h.p.2.2.2.2.1 | exact h.p.2.2.2.2.2.1 | exact h.p.2.2.2.2.2.2.1 | exact h.p.2.2.2.2.2.2.2.1 | exact h.p.2.2.2.2.2.2.2.2.1 | exact rfl) dX0_copyAt_21 ?_
      refine c_get hκ kX2 (by (try simp (disch := omega) only [oS_k, oS_o, oS_a, oS_f, oS_n, aS_k, aS_o, aS_a, aS_f, aS_n, fS_k, fS_o, fS_a, fS_f, fS_n, nO_k, nO_o, nO_a, nA_k, nA_o, nA_a, nA_f, nA_n, nF_k, nF_o, nF_a, nF_f, nF_n, Nat.reduceEqDiff, ↓reduceIte, and_true, true_and, and_false, false_and, reduceCtorEq, xl_0, xl_1, xl_2, nI_add, nI_1, nm_2, nm_3, nm_4, nm_6, nm_7, nm_8, nm_12, nm_16, na_0, na_2, na_3, na_4, na_5, na_6, na_7, na_8, nm_p, nm_m, nI_clamp]); first | done | assumption | exact h.sc.k (by decide) | exact h.sc.kb (by omega) | exact h.sc.kbt (by omega) | exact h.sc.kbh (by omega) | exact h.sc.kba (by omega) | exact h.sc.kt (by omega) | exact h.sc.ktl (by omega) | exact h.sc.ks (by omega) | rfl) 1 (by decide) (Or.inr ⟨_, q534⟩) rfl (by (try simp (disch := omega) only [oS_k, oS_o, oS_a, oS_f, oS_n, aS_k, aS_o, aS_a, aS_f, aS_n, fS_k, fS_o, fS_a, fS_f, fS_n, nO_k, nO_o, nO_a, nA_k, nA_o, nA_a, nA_f, nA_n, nF_k, nF_o, nF_a, nF_f, nF_n, Nat.reduceEqDiff, ↓reduceIte, and_true, true_and, and_false, false_and, reduceCtorEq, xl_0, xl_1, xl_2, nI_add, nI_1, nm_2, nm_3, nm_4, nm_6, nm_7, nm_8, nm_12, nm_16, na_0, na_2, na_3, na_4, na_5, na_6, na_7, na_8, nm_p, nm_m, nI_clamp]); first | exact h.sc.o (by decide) rfl | exact h.sc.ob1 (by omega) | exact h.sc.ob2 (by omega) | exact h.sc.ob3 (by omega) | exact h.sc.ot (by omega) | exact h.sc.fb (by omega) | exact h.sc.ft (by omega) (by omega) | exact h.sc.fs (by omega) | exact h.p.1 | exact h.p.2.2.2.2.1 | exact h.p.2.2.2.2.2.1 | exact h.p.2.2.2.2.2.2.1 | exact h.p.2.2.2.2.2.2.2.1 | exact h.p.2.2.2.2.2.2.2.2.1 | exact rfl) dX0_copyAt_22 ?_
      refine x_iload_n hκ dX0_copyAt_25 rfl ?_
      refine c_aald (t := 7) hκ (by (try simp (disch := omega) only [oS_k, oS_o, oS_a, oS_f, oS_n, aS_k, aS_o, aS_a, aS_f, aS_n, fS_k, fS_o, fS_a, fS_f, fS_n, nO_k, nO_o, nO_a, nA_k, nA_o, nA_a, nA_f, nA_n, nF_k, nF_o, nF_a, nF_f, nF_n, Nat.reduceEqDiff, ↓reduceIte, and_true, true_and, and_false, false_and, reduceCtorEq, xl_0, xl_1, xl_2, nI_add, nI_1, nm_2, nm_3, nm_4, nm_6, nm_7, nm_8, nm_12, nm_16, na_0, na_2, na_3, na_4, na_5, na_6, na_7, na_8, nm_p, nm_m, nI_clamp]); first | done | assumption | exact h.sc.k (by decide) | exact h.sc.kb (by omega) | exact h.sc.kbt (by omega) | exact h.sc.kbh (by omega) | exact h.sc.kba (by omega) | exact h.sc.kt (by omega) | exact h.sc.ktl (by omega) | exact h.sc.ks (by omega) | rfl) (by decide) (by decide) (by (try simp (disch := omega) only [oS_k, oS_o, oS_a, oS_f, oS_n, aS_k, aS_o, aS_a, aS_f, aS_n, fS_k, fS_o, fS_a, fS_f, fS_n, nO_k, nO_o, nO_a, nA_k, nA_o, nA_a, nA_f, nA_n, nF_k, nF_o, nF_a, nF_f, nF_n, Nat.reduceEqDiff, ↓reduceIte, and_true, true_and, and_false, false_and, reduceCtorEq, xl_0, xl_1, xl_2, nI_add, nI_1, nm_2, nm_3, nm_4, nm_6, nm_7, nm_8, nm_12, nm_16, na_0, na_2, na_3, na_4, na_5, na_6, na_7, na_8, nm_p, nm_m, nI_clamp]); first | exact h.sc.n3 | exact h.sc.n4 | exact h.sc.nbt (by omega) | exact h.sc.nbh (by omega) | exact h.sc.nba (by omega) | exact h.sc.n41 | exact h.sc.n42 | exact h.sc.n43 | exact h.sc.n45 | exact h.sc.n46 | exact h.sc.n48 | exact rfl) (by first | ((with_reducible refine vp_in_nI ?_ ?_) <;> omega) | exact i32_in (by omega) (by omega) | exact i32_in' (by simp only [Int32.toInt_add, Int32.toInt_mul, Int32.toInt_sub, Int32.reduceToInt, Int.bmod_add_bmod, Int.bmod_sub_bmod, Int.add_bmod_bmod, Int.sub_bmod_bmod, Int.bmod_mul_bmod, Int.mul_bmod_bmod]; exact i32_bm (by omega) (by omega)) (by omega) (by omega) | exact i32_in (by decide) (by decide)) (by (try simp (disch := omega) only [oS_k, oS_o, oS_a, oS_f, oS_n, aS_k, aS_o, aS_a, aS_f, aS_n, fS_k, fS_o, fS_a, fS_f, fS_n, nO_k, nO_o, nO_a, nA_k, nA_o, nA_a, nA_f, nA_n, nF_k, nF_o, nF_a, nF_f, nF_n, Nat.reduceEqDiff, ↓reduceIte, and_true, true_and, and_false, false_and, reduceCtorEq, xl_0, xl_1, xl_2, nI_add, nI_1, nm_2, nm_3, nm_4, nm_6, nm_7, nm_8, nm_12, nm_16, na_0, na_2, na_3, na_4, na_5, na_6, na_7, na_8, nm_p, nm_m, nI_clamp]); first | exact h.sc.o (by decide) rfl | exact h.sc.ob1 (by omega) | exact h.sc.ob2 (by omega) | exact h.sc.ob3 (by omega) | exact h.sc.ot (by omega) | exact h.sc.fb (by omega) | exact h.sc.ft (by omega) (by omega) | exact h.sc.fs (by omega) | exact h.p.1 | exact h.p.2.2.2.2.1 | exact h.p.2.2.2.2.2.1 | exact h.p.2.2.2.2.2.2.1 | exact h.p.2.2.2.2.2.2.2.1 | exact h.p.2.2.2.2.2.2.2.2.1 | exact rfl) dX0_copyAt_26 ?_
      refine c_get hκ kX3 (by (try simp (disch := omega) only [oS_k, oS_o, oS_a, oS_f, oS_n, aS_k, aS_o, aS_a, aS_f, aS_n, fS_k, fS_o, fS_a, fS_f, fS_n, nO_k, nO_o, nO_a, nA_k, nA_o, nA_a, nA_f, nA_n, nF_k, nF_o, nF_a, nF_f, nF_n, Nat.reduceEqDiff, ↓reduceIte, and_true, true_and, and_false, false_and, reduceCtorEq, xl_0, xl_1, xl_2, nI_add, nI_1, nm_2, nm_3, nm_4, nm_6, nm_7, nm_8, nm_12, nm_16, na_0, na_2, na_3, na_4, na_5, na_6, na_7, na_8, nm_p, nm_m, nI_clamp]); first | done | assumption | exact h.sc.k (by decide) | exact h.sc.kb (by omega) | exact h.sc.kbt (by omega) | exact h.sc.kbh (by omega) | exact h.sc.kba (by omega) | exact h.sc.kt (by omega) | exact h.sc.ktl (by omega) | exact h.sc.ks (by omega) | rfl) 0 (by decide) (Or.inr ⟨_, q519⟩) rfl (by (try simp (disch := omega) only [oS_k, oS_o, oS_a, oS_f, oS_n, aS_k, aS_o, aS_a, aS_f, aS_n, fS_k, fS_o, fS_a, fS_f, fS_n, nO_k, nO_o, nO_a, nA_k, nA_o, nA_a, nA_f, nA_n, nF_k, nF_o, nF_a, nF_f, nF_n, Nat.reduceEqDiff, ↓reduceIte, and_true, true_and, and_false, false_and, reduceCtorEq, xl_0, xl_1, xl_2, nI_add, nI_1, nm_2, nm_3, nm_4, nm_6, nm_7, nm_8, nm_12, nm_16, na_0, na_2, na_3, na_4, na_5, na_6, na_7, na_8, nm_p, nm_m, nI_clamp]); first | exact h.sc.o (by decide) rfl | exact h.sc.ob1 (by omega) | exact h.sc.ob2 (by omega) | exact h.sc.ob3 (by omega) | exact h.sc.ot (by omega) | exact h.sc.fb (by omega) | exact h.sc.ft (by omega) (by omega) | exact h.sc.fs (by omega) | exact h.p.1 | exact h.p.2.2.2.2.1 | exact h.p.2.2.2.2.2.1 | exact h.p.2.2.2.2.2.2.1 | exact h.p.2.2.2.2.2.2.2.1 | exact h.p.2.2.2.2.2.2.2.2.1 | exact rfl) dX0_copyAt_27 ?_
      refine x_astore hκ dX0_copyAt_30 (by rw [hL]; decide) rfl ?_
      refine x_iload_n hκ dX0_copyAt_32 rfl ?_
      refine x_iconst (v := 0) hκ dX0_copyAt_33 (by decide) ?_
      refine x_aload hκ dX0_copyAt_34 rfl ?_
      refine c_callF  hκ (mJ2_size (h.aT hTT)) (by omega) (by decide) vX0_100_J2 fJ2_size kJ2 (by (try simp (disch := omega) only [oS_k, oS_o, oS_a, oS_f, oS_n, aS_k, aS_o, aS_a, aS_f, aS_n, fS_k, fS_o, fS_a, fS_f, fS_n, nO_k, nO_o, nO_a, nA_k, nA_o, nA_a, nA_f, nA_n, nF_k, nF_o, nF_a, nF_f, nF_n, Nat.reduceEqDiff, ↓reduceIte, and_true, true_and, and_false, false_and, reduceCtorEq, xl_0, xl_1, xl_2, nI_add, nI_1, nm_2, nm_3, nm_4, nm_6, nm_7, nm_8, nm_12, nm_16, na_0, na_2, na_3, na_4, na_5, na_6, na_7, na_8, nm_p, nm_m, nI_clamp]); first | done | assumption | exact h.sc.k (by decide) | exact h.sc.kb (by omega) | exact h.sc.kbt (by omega) | exact h.sc.kbh (by omega) | exact h.sc.kba (by omega) | exact h.sc.kt (by omega) | exact h.sc.ktl (by omega) | exact h.sc.ks (by omega) | rfl) rfl (Nat.le_of_ble_eq_true rfl) dX0_copyAt_36 (jIr (fun r36 h36 => ?_))
      subst h36
      refine x_iconst (v := 1) hκ dX0_copyAt_41 (by decide) ?_
      refine x_isub hκ dX0_copyAt_42 ?_
      refine x_callSi hκ mX0_isIn (by omega) (by decide) wX0_3 aX0_isIn rfl (Nat.le_of_ble_eq_true rfl) dX0_copyAt_43 (fun r43 h43 => ?_)
      have e13 : (nI (vT γ (4 * B + T)) - 1).toInt = (vT γ (4 * B + T) : Int) - 1 := by rw [i32_sub (by rw [nI_toInt (by omega)]; show _ ≤ _ - (1 : Int); omega) (by rw [nI_toInt (by omega)]; show _ - (1 : Int) < _; omega), nI_toInt (by omega)]; rfl
      rw [e13] at h43
      refine x_if_eq (tgt := 63) hκ dX0_copyAt_46 (by decide) (fun c46 => ?_) (fun c46 => ?_)
      · -- X0_copyAt 46T
        have i46 := h43.f c46
        try simp only [Int32.reduceToInt] at i46
        refine x_null hκ dX0_copyAt_63 ?_
        refine c_reto (x := none) hκ hr (Or.inl ⟨_, rfl⟩) dX0_copyAt_64 ?_
        refine ⟨Or.inr ⟨fun z => i46 ?_, rfl⟩, rfl⟩
        have z2 := z.2
        rw [cl_4bt (by omega) (by omega), h40] at z2
        have e0 : Int32.toInt 0 = 0 := rfl
        omega
      · -- X0_copyAt 46F
        have i46 := h43.t c46
        try simp only [Int32.reduceToInt] at i46
        have hcp : isCp σ (nI B) (nI T) i := ⟨⟨i4, i11⟩, by rw [cl_4bt (by omega) (by omega)]; omega⟩
        obtain ⟨I, hI, rfl, -⟩ := i32_nat i46
        have hII : I < vT γ (4 * B + T) := by omega
        refine x_aload hκ dX0_copyAt_49 rfl ?_
        refine x_iload_n hκ dX0_copyAt_51 rfl ?_
        refine c_callF  hκ (mJ2_get (h.aT hTT) hII) (by omega) (by decide) vX0_105_J2 fJ2_get kJ2 (by (try simp (disch := omega) only [oS_k, oS_o, oS_a, oS_f, oS_n, aS_k, aS_o, aS_a, aS_f, aS_n, fS_k, fS_o, fS_a, fS_f, fS_n, nO_k, nO_o, nO_a, nA_k, nA_o, nA_a, nA_f, nA_n, nF_k, nF_o, nF_a, nF_f, nF_n, Nat.reduceEqDiff, ↓reduceIte, and_true, true_and, and_false, false_and, reduceCtorEq, xl_0, xl_1, xl_2, nI_add, nI_1, nm_2, nm_3, nm_4, nm_6, nm_7, nm_8, nm_12, nm_16, na_0, na_2, na_3, na_4, na_5, na_6, na_7, na_8, nm_p, nm_m, nI_clamp]); first | done | assumption | exact h.sc.k (by decide) | exact h.sc.kb (by omega) | exact h.sc.kbt (by omega) | exact h.sc.kbh (by omega) | exact h.sc.kba (by omega) | exact h.sc.kt (by omega) | exact h.sc.ktl (by omega) | exact h.sc.ks (by omega) | rfl) rfl (Nat.le_of_ble_eq_true rfl) dX0_copyAt_52 (jRr (fun r52 h52 => ?_))
        subst h52
        refine c_cast hκ kX17 (by exact (h.cp hTT hII).1) q887 dX0_copyAt_57 ?_
        refine x_goto (tgt := 64) hκ dX0_copyAt_60 (by decide) ?_
        refine c_reto (x := some (vC γ (4 * B + T) I)) hκ hr (Or.inl ⟨_, rfl⟩) dX0_copyAt_64 ?_
        exact ⟨Or.inl ⟨B, T, I, rfl, by omega, rfl, by omega, rfl, hII, hcp, rfl⟩, rfl⟩
    · -- X0_copyAt 11F
      have i11 := h8.f c11
      try simp only [Int32.reduceToInt] at i11
      refine x_null hκ dX0_copyAt_14 ?_
      refine c_reto (x := none) hκ hr (Or.inl ⟨_, rfl⟩) dX0_copyAt_15 ?_
      exact ⟨Or.inr ⟨fun z => i11 z.1.2, rfl⟩, rfl⟩
theorem oX0_copy {E : gE} {L : Nat → Nat} {γ : Gh} {σ : TS} {s : CSt} (h : CW E L γ σ s) {b t i k : Int32} (hM : ∀ j : Nat, σ.2 42 j = 0 ∨ σ.2 42 j = 1) {r2 : Int32} {σ2 : TS} (h2 : (r2 = if isCp σ b t i ∧ 0 ≤ k.toInt ∧ k.toInt ≤ 2 then (if k.toInt = 0 then σ.2 41 (ca b t i) else if k.toInt = 1 then (if σ.2 42 (ca b t i) = 0 then 0 else 1) else σ.2 43 (ca b t i)) else -1) ∧ σ2 = σ) : CMg E s yX0_copy cX0_copy 6 (some .int) 5 0 0 [.ref (L 0), .int b, .int t, .int i, .int k] (cQ E L r2 σ2) := by
  obtain ⟨rfl, rfl⟩ := h2
  refine CMg.of (by decide) (Nat.le_of_ble_eq_true rfl) ?_
  rintro κ rfl hL hκ hr
  refine x_aload_n hκ dX0_copy_0 rfl ?_
  refine x_iload_n hκ dX0_copy_1 rfl ?_
  refine x_iload_n hκ dX0_copy_2 rfl ?_
  refine x_iload_n hκ dX0_copy_3 rfl ?_
  refine c_callV  hκ (mX0_copyAt h) (by omega) (by decide) wX0_384 aX0_copyAt kX0 (by (try simp (disch := omega) only [oS_k, oS_o, oS_a, oS_f, oS_n, aS_k, aS_o, aS_a, aS_f, aS_n, fS_k, fS_o, fS_a, fS_f, fS_n, nO_k, nO_o, nO_a, nA_k, nA_o, nA_a, nA_f, nA_n, nF_k, nF_o, nF_a, nF_f, nF_n, Nat.reduceEqDiff, ↓reduceIte, and_true, true_and, and_false, false_and, reduceCtorEq, xl_0, xl_1, xl_2, nI_add, nI_1, nm_2, nm_3, nm_4, nm_6, nm_7, nm_8, nm_12, nm_16, na_0, na_2, na_3, na_4, na_5, na_6, na_7, na_8, nm_p, nm_m, nI_clamp]); first | done | assumption | exact h.sc.k (by decide) | exact h.sc.kb (by omega) | exact h.sc.kbt (by omega) | exact h.sc.kbh (by omega) | exact h.sc.kba (by omega) | exact h.sc.kt (by omega) | exact h.sc.ktl (by omega) | exact h.sc.ks (by omega) | rfl) rfl (Nat.le_of_ble_eq_true rfl) dX0_copy_4 (jOr (fun r4 h4 => ?_))
  rcases h4 with ⟨B, T, I, rfl, hB, rfl, hT, rfl, hI, hcp, rfl⟩ | ⟨hn, rfl⟩
  · have hTT : 4 * B + T < 12 := by omega
    have hvt := (h.t _ hTT).2.2.1
    obtain ⟨p1, l, p2, p3, p4, p5, p6⟩ := h.cp hTT hI
    have eca : ca (nI B) (nI T) (nI I) = 300 * (4 * B + T) + I := by show 300 * _ + _ = _; rw [cl_4bt hB hT, nI_clamp (by omega)]
    rw [eca] at hr
    show X κ (sG (kE κ) s) 0 0 _ _ [.ref (vC γ (4 * B + T) I)]
    refine x_astore hκ dX0_copy_7 (by rw [hL]; decide) rfl ?_
    refine x_aload hκ dX0_copy_9 rfl ?_
    refine x_ifnonnull (tgt := 16) hκ dX0_copy_11 (by decide) ?_
    refine x_iload hκ dX0_copy_16 rfl ?_
    refine x_if_ne (tgt := 32) hκ dX0_copy_18 (by decide) (fun c18 => ?_) (fun c18 => ?_)
    · -- X0_copy 18T
      have i18 := c18
      simp (disch := omega) only [i32_lt, i32_le, i32_eq, Int32.reduceToInt, nI_toInt] at i18
      refine x_iload hκ dX0_copy_32 rfl ?_
      refine x_iconst (v := 1) hκ dX0_copy_34 (by decide) ?_
      refine x_icmp_ne (tgt := 54) hκ dX0_copy_35 (by decide) (fun c35 => ?_) (fun c35 => ?_)
      · -- X0_copy 35T
        have i35 := c35
        simp (disch := omega) only [i32_lt, i32_le, i32_eq, Int32.reduceToInt, nI_toInt] at i35
        refine x_iload hκ dX0_copy_54 rfl ?_
        refine x_iconst (v := 2) hκ dX0_copy_56 (by decide) ?_
        refine x_icmp_ne (tgt := 68) hκ dX0_copy_57 (by decide) (fun c57 => ?_) (fun c57 => ?_)
        · -- X0_copy 57T
          have i57 := c57
          simp (disch := omega) only [i32_lt, i32_le, i32_eq, Int32.reduceToInt, nI_toInt] at i57
          refine x_iconst (v := (-1)) hκ dX0_copy_68 (by decide) ?_
          refine c_reti hκ hr dX0_copy_69 ?_
          rw [if_neg (by rintro ⟨-, z⟩; omega)]
          exact ⟨rfl, γ, h⟩
        · -- X0_copy 57F
          have i57 := c57
          simp (disch := omega) only [i32_lt, i32_le, i32_eq, Int32.reduceToInt, nI_toInt] at i57
          refine x_aload hκ dX0_copy_60 rfl ?_
          refine c_get hκ kX17 (by exact p1) 2 (by decide) (Or.inr ⟨_, q897⟩) rfl (by exact p6) dX0_copy_62 ?_
          refine x_goto (tgt := 69) hκ dX0_copy_65 (by decide) ?_
          refine c_reti hκ hr dX0_copy_69 ?_
          rw [if_pos ⟨hcp, by omega⟩, if_neg (by omega), if_neg (by omega)]
          exact ⟨rfl, γ, h⟩
      · -- X0_copy 35F
        have i35 := c35
        simp (disch := omega) only [i32_lt, i32_le, i32_eq, Int32.reduceToInt, nI_toInt] at i35
        refine x_aload hκ dX0_copy_38 rfl ?_
        refine c_get hκ kX17 (by exact p1) 1 (by decide) (Or.inr ⟨_, q896⟩) rfl (by exact p5) dX0_copy_40 ?_
        refine x_if_eq (tgt := 50) hκ dX0_copy_43 (by decide) (fun c43 => ?_) (fun c43 => ?_)
        · -- X0_copy 43T
          have i43 := c43
          simp (disch := omega) only [i32_lt, i32_le, i32_eq, Int32.reduceToInt, nI_toInt] at i43
          refine x_iconst (v := 0) hκ dX0_copy_50 (by decide) ?_
          refine x_goto (tgt := 69) hκ dX0_copy_51 (by decide) ?_
          refine c_reti hκ hr dX0_copy_69 ?_
          rw [if_pos ⟨hcp, by omega⟩, if_neg (by omega), if_pos (by omega), if_pos c43]
          exact ⟨rfl, γ, h⟩
        · -- X0_copy 43F
          have i43 := c43
          simp (disch := omega) only [i32_lt, i32_le, i32_eq, Int32.reduceToInt, nI_toInt] at i43
          refine x_iconst (v := 1) hκ dX0_copy_46 (by decide) ?_
          refine x_goto (tgt := 69) hκ dX0_copy_47 (by decide) ?_
          refine c_reti hκ hr dX0_copy_69 ?_
          rw [if_pos ⟨hcp, by omega⟩, if_neg (by omega), if_pos (by omega), if_neg c43]
          exact ⟨rfl, γ, h⟩
    · -- X0_copy 18F
      have i18 := c18
      simp (disch := omega) only [i32_lt, i32_le, i32_eq, Int32.reduceToInt, nI_toInt] at i18
      refine x_aload hκ dX0_copy_21 rfl ?_
      refine c_get hκ kX17 (by exact p1) 0 (by decide) (Or.inr ⟨_, q894⟩) rfl (by exact p4) dX0_copy_23 ?_
      refine c_get hκ kX16 (by exact (h.lt p2).1) 0 (by decide) (Or.inr ⟨_, q745⟩) rfl (by exact (h.lt p2).2.2.1) dX0_copy_26 ?_
      refine x_goto (tgt := 69) hκ dX0_copy_29 (by decide) ?_
      refine c_reti hκ hr dX0_copy_69 ?_
      rw [if_pos ⟨hcp, by omega⟩, if_pos (by omega), p3]
      exact ⟨rfl, γ, h⟩
  · show X κ (sG (kE κ) s) 0 0 _ _ [.null]
    rw [if_neg (fun z => hn z.1)] at hr
    refine x_astoreN hκ dX0_copy_7 (by rw [hL]; decide) rfl ?_
    refine x_aloadN hκ dX0_copy_9 rfl ?_
    refine x_ifnonnullN hκ dX0_copy_11 ?_
    refine x_iconst (v := (-1)) hκ dX0_copy_14 (by decide) ?_
    refine c_reti hκ hr dX0_copy_15 ?_
    exact ⟨rfl, γ, h⟩
theorem l_sum_lt {f : Nat → Int32} {t : Nat} {v : Int32} : ∀ n, n ≤ t → l_sum (upd f t v) n = l_sum f n
  | 0, _ => rfl
  | n + 1, h => by rw [l_sum, l_sum, l_sum_lt n (by omega), upd, if_neg (by omega)]
theorem l_sum_upd {f : Nat → Int32} {t : Nat} {v : Int32} : ∀ n, t < n → l_sum (upd f t v) n = l_sum f n + (v - f t)
  | 0, h => by omega
  | n + 1, h => by
    rw [l_sum, l_sum]
    by_cases e : t = n
    · subst e
      rw [l_sum_lt t (Nat.le_refl _), upd, if_pos rfl, Int32.sub_eq_add_neg, Int32.add_assoc, Int32.add_comm v, ← Int32.add_assoc (f t), Int32.add_right_neg, Int32.zero_add]
    · rw [l_sum_upd n (by omega), upd, if_neg (by omega), Int32.add_assoc, Int32.add_comm (v - f t), ← Int32.add_assoc]
