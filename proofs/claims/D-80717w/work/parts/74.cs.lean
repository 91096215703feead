theorem wX0_351 : GoodIn lw_all (va_wsS RX0 351 yX0_isSheet (ws_ yX0_isSheet cX0_isSheet 1 (some .boolean))) := lw_S q913 q914 q69 q915
theorem aX0_isSheet : yX0_isSheet.cls ≠ "java/lang/invoke/MethodHandle" ∧ yX0_isSheet.cls ≠ "java/lang/invoke/VarHandle" ∧ (parseMethodDescriptor yX0_isSheet.desc).map (fun d => d.parameters.length) = some 1 := by decide +kernel
theorem wX0_364 : GoodIn lw_all (wsV RX0 364 RX7 yX7_size (ws_ yX7_size cX7_size 3 (some .int))) := lw_V q924 q925 q926 q81 q927
theorem aX7_size : yX7_size.cls = RX7 ∧ yX7_size.cls ≠ "java/lang/invoke/MethodHandle" ∧ yX7_size.cls ≠ "java/lang/invoke/VarHandle" ∧ (parseMethodDescriptor yX7_size.desc).map (fun d => d.parameters.length) = some 0 := by decide +kernel
/-! the component: sheets -/
theorem mX7_lane {E : gE} {s : CSt} {a q : Nat} (hk : s.1 a = 9) (h0 : s.2.1 a 0 = .ref q) (hq : s.1 q = 33 ∨ s.1 q = 30) : CMg E s yX7_lane cX7_lane 1 (some .int) 1 0 0 [.ref a] (qI (fun r s' => r = (if s.1 q = 33 then 0 else 1) ∧ s' = s)) := by
  refine CMg.of (by decide) (Nat.le_of_ble_eq_true rfl) ?_
  rintro κ rfl hL hκ hr
  rcases hq with hq | hq
  · rw [if_pos hq] at hr
    refine x_aload_n hκ dX7_lane_0 rfl ?_
    refine c_get hκ kX7 (by exact hk) 0 (by decide) (Or.inl q624) rfl (by exact h0) dX7_lane_1 ?_
    refine x_instA (t := 3) (ty := .short) (nm := "[S") hκ q923 (sG_a (t := 3) hq (by decide)) rfl rfl dX7_lane_4 ?_
    refine x_if_eq (tgt := 14) hκ dX7_lane_7 (by decide) (fun c7 => ?_) (fun c7 => ?_)
    · -- X7_lane 7T
      have i7 := c7
      simp (disch := omega) only [i32_lt, i32_le, i32_eq, Int32.reduceToInt, nI_toInt] at i7
      exact absurd c7 (by decide)
    · -- X7_lane 7F
      have i7 := c7
      simp (disch := omega) only [i32_lt, i32_le, i32_eq, Int32.reduceToInt, nI_toInt] at i7
      refine x_iconst (v := 0) hκ dX7_lane_10 (by decide) ?_
      refine x_goto (tgt := 15) hκ dX7_lane_11 (by decide) ?_
      refine c_reti hκ hr dX7_lane_15 ?_
      exact ⟨rfl, rfl⟩
  · rw [if_neg (by omega)] at hr
    refine x_aload_n hκ dX7_lane_0 rfl ?_
    refine c_get hκ kX7 (by exact hk) 0 (by decide) (Or.inl q624) rfl (by exact h0) dX7_lane_1 ?_
    refine x_instNo (t := 0) (ty := .int) (C := "[I") (nm := "[S") hκ q923 (sG_a (t := 0) hq (by decide)) rfl rfl (by decide) dX7_lane_4 ?_
    refine x_if_eq (tgt := 14) hκ dX7_lane_7 (by decide) (fun c7 => ?_) (fun c7 => ?_)
    · -- X7_lane 7T
      have i7 := c7
      simp (disch := omega) only [i32_lt, i32_le, i32_eq, Int32.reduceToInt, nI_toInt] at i7
      refine x_iconst (v := 1) hκ dX7_lane_14 (by decide) ?_
      refine c_reti hκ hr dX7_lane_15 ?_
      exact ⟨rfl, rfl⟩
    · -- X7_lane 7F
      have i7 := c7
      simp (disch := omega) only [i32_lt, i32_le, i32_eq, Int32.reduceToInt, nI_toInt] at i7
      exact absurd rfl c7
theorem mX7_size {E : gE} {s : CSt} {a q : Nat} (hk : s.1 a = 9) (h0 : s.2.1 a 0 = .ref q) (hq : s.1 q = 33 ∨ s.1 q = 30) : CMg E s yX7_size cX7_size 3 (some .int) 1 0 0 [.ref a] (qI (fun r s' => r = nI (s.2.2.2.2 q) ∧ s' = s)) := by
  refine CMg.of (by decide) (Nat.le_of_ble_eq_true rfl) ?_
  rintro κ rfl hL hκ hr
  rcases hq with hq | hq
  · skip
    refine x_aload_n hκ dX7_size_0 rfl ?_
    refine c_get hκ kX7 (by exact hk) 0 (by decide) (Or.inl q624) rfl (by exact h0) dX7_size_1 ?_
    refine x_astore_n hκ dX7_size_4 (by rw [hL]; decide) rfl ?_
    refine x_aload_n hκ dX7_size_5 rfl ?_
    refine x_instA (t := 3) (ty := .short) (nm := "[S") hκ q923 (sG_a (t := 3) hq (by decide)) rfl rfl dX7_size_6 ?_
    refine x_if_eq (tgt := 22) hκ dX7_size_9 (by decide) (fun c9 => ?_) (fun c9 => ?_)
    · -- X7_size 9T
      have i9 := c9
      simp (disch := omega) only [i32_lt, i32_le, i32_eq, Int32.reduceToInt, nI_toInt] at i9
      exact absurd c9 (by decide)
    · -- X7_size 9F
      have i9 := c9
      simp (disch := omega) only [i32_lt, i32_le, i32_eq, Int32.reduceToInt, nI_toInt] at i9
      refine x_aload_n hκ dX7_size_12 rfl ?_
      refine x_castA (t := 3) (ty := .short) (nm := "[S") hκ q923 (sG_a (t := 3) hq (by decide)) rfl rfl dX7_size_13 ?_
      refine x_astore_n hκ dX7_size_16 (by rw [hL]; decide) rfl ?_
      refine x_aload_n hκ dX7_size_17 rfl ?_
      refine c_alen (t := 3) hκ (by exact hq) (by decide) (by exact (show _ = s.2.2.2.2 q from rfl)) dX7_size_18 ?_
      refine x_goto (tgt := 30) hκ dX7_size_19 (by decide) ?_
      refine c_reti hκ hr dX7_size_30 ?_
      exact ⟨rfl, rfl⟩
  · skip
    refine x_aload_n hκ dX7_size_0 rfl ?_
    refine c_get hκ kX7 (by exact hk) 0 (by decide) (Or.inl q624) rfl (by exact h0) dX7_size_1 ?_
    refine x_astore_n hκ dX7_size_4 (by rw [hL]; decide) rfl ?_
    refine x_aload_n hκ dX7_size_5 rfl ?_
    refine x_instNo (t := 0) (ty := .int) (C := "[I") (nm := "[S") hκ q923 (sG_a (t := 0) hq (by decide)) rfl rfl (by decide) dX7_size_6 ?_
    refine x_if_eq (tgt := 22) hκ dX7_size_9 (by decide) (fun c9 => ?_) (fun c9 => ?_)
    · -- X7_size 9T
      have i9 := c9
      simp (disch := omega) only [i32_lt, i32_le, i32_eq, Int32.reduceToInt, nI_toInt] at i9
      refine x_aload_n hκ dX7_size_22 rfl ?_
      refine c_get hκ kX7 (by exact hk) 0 (by decide) (Or.inl q624) rfl (by exact h0) dX7_size_23 ?_
      refine x_castA (t := 0) (ty := .int) (nm := "[I") hκ q928 (sG_a (t := 0) hq (by decide)) rfl rfl dX7_size_26 ?_
      refine c_alen (t := 0) hκ (by exact hq) (by decide) (by exact (show _ = s.2.2.2.2 q from rfl)) dX7_size_29 ?_
      refine c_reti hκ hr dX7_size_30 ?_
      exact ⟨rfl, rfl⟩
    · -- X7_size 9F
      have i9 := c9
      simp (disch := omega) only [i32_lt, i32_le, i32_eq, Int32.reduceToInt, nI_toInt] at i9
      exact absurd rfl c9
theorem mX7_get {E : gE} {s : CSt} {a q i : Nat} (hk : s.1 a = 9) (h0 : s.2.1 a 0 = .ref q) (hq : s.1 q = 33 ∨ s.1 q = 30) (hi : i < s.2.2.2.2 q) (hi2 : i < 2 ^ 31) : CMg E s yX7_get cX7_get 4 (some .int) 1 0 0 [.ref a, .int (nI i)] (qI (fun r s' => r = s.2.2.1 q i ∧ s' = s)) := by
  refine CMg.of (by decide) (Nat.le_of_ble_eq_true rfl) ?_
  rintro κ rfl hL hκ hr
  rcases hq with hq | hq
  · skip
    refine x_aload_n hκ dX7_get_0 rfl ?_
    refine c_get hκ kX7 (by exact hk) 0 (by decide) (Or.inl q624) rfl (by exact h0) dX7_get_1 ?_
    refine x_astore_n hκ dX7_get_4 (by rw [hL]; decide) rfl ?_
    refine x_aload_n hκ dX7_get_5 rfl ?_
    refine x_instA (t := 3) (ty := .short) (nm := "[S") hκ q923 (sG_a (t := 3) hq (by decide)) rfl rfl dX7_get_6 ?_
    refine x_if_eq (tgt := 23) hκ dX7_get_9 (by decide) (fun c9 => ?_) (fun c9 => ?_)
    · -- X7_get 9T
      have i9 := c9
      simp (disch := omega) only [i32_lt, i32_le, i32_eq, Int32.reduceToInt, nI_toInt] at i9
      exact absurd c9 (by decide)
    · -- X7_get 9F
      have i9 := c9
      simp (disch := omega) only [i32_lt, i32_le, i32_eq, Int32.reduceToInt, nI_toInt] at i9
      refine x_aload_n hκ dX7_get_12 rfl ?_
      refine x_castA (t := 3) (ty := .short) (nm := "[S") hκ q923 (sG_a (t := 3) hq (by decide)) rfl rfl dX7_get_13 ?_
      refine x_astore_n hκ dX7_get_16 (by rw [hL]; decide) rfl ?_
      refine x_aload_n hκ dX7_get_17 rfl ?_
      refine x_iload_n hκ dX7_get_18 rfl ?_
      refine c_sald hκ (by exact hq) (by exact (show _ = s.2.2.2.2 q from rfl)) (i32_in (by rw [nI_toInt hi2]; omega) (by rw [nI_toInt hi2]; omega)) (by exact (congrArg (s.2.2.1 q) (nI_clamp hi2))) dX7_get_19 ?_
      refine x_goto (tgt := 32) hκ dX7_get_20 (by decide) ?_
      refine c_reti hκ hr dX7_get_32 ?_
      exact ⟨rfl, rfl⟩
  · skip
    refine x_aload_n hκ dX7_get_0 rfl ?_
    refine c_get hκ kX7 (by exact hk) 0 (by decide) (Or.inl q624) rfl (by exact h0) dX7_get_1 ?_
    refine x_astore_n hκ dX7_get_4 (by rw [hL]; decide) rfl ?_
    refine x_aload_n hκ dX7_get_5 rfl ?_
    refine x_instNo (t := 0) (ty := .int) (C := "[I") (nm := "[S") hκ q923 (sG_a (t := 0) hq (by decide)) rfl rfl (by decide) dX7_get_6 ?_
    refine x_if_eq (tgt := 23) hκ dX7_get_9 (by decide) (fun c9 => ?_) (fun c9 => ?_)
    · -- X7_get 9T
      have i9 := c9
      simp (disch := omega) only [i32_lt, i32_le, i32_eq, Int32.reduceToInt, nI_toInt] at i9
      refine x_aload_n hκ dX7_get_23 rfl ?_
      refine c_get hκ kX7 (by exact hk) 0 (by decide) (Or.inl q624) rfl (by exact h0) dX7_get_24 ?_
      refine x_castA (t := 0) (ty := .int) (nm := "[I") hκ q928 (sG_a (t := 0) hq (by decide)) rfl rfl dX7_get_27 ?_
      refine x_iload_n hκ dX7_get_30 rfl ?_
      refine c_iald hκ (by exact hq) (by exact (show _ = s.2.2.2.2 q from rfl)) (i32_in (by rw [nI_toInt hi2]; omega) (by rw [nI_toInt hi2]; omega)) (by exact (congrArg (s.2.2.1 q) (nI_clamp hi2))) dX7_get_31 ?_
      refine c_reti hκ hr dX7_get_32 ?_
      exact ⟨rfl, rfl⟩
    · -- X7_get 9F
      have i9 := c9
      simp (disch := omega) only [i32_lt, i32_le, i32_eq, Int32.reduceToInt, nI_toInt] at i9
      exact absurd rfl c9
/-- a sheet's row is dropped -/
theorem CWc.drop {E : gE} {L : Nat → Nat} {γ : Gh} {σ : TS} {c : Int32} {s : CSt} (h : CWc E L γ σ c s) {i : Nat} (hi : i < 2) : CWc E L γ (tA σ 54 i (-1)) c (oS s (L (49 + i)) 0 .null) := by
  obtain ⟨a1, a2, a3, a4, a5, a6, a7⟩ := h.at (r := 49 + i) (by omega) (Kp.oS (s := s) (k := 0) (v := .null) rfl)
  have hf : Fr [54] σ (tA σ 54 i (-1)) := (Fr.rf _ _).A rfl _ _
  have hk : Kp (fun b => b = L (49 + i)) s (oS s (L (49 + i)) 0 .null) := Kp.oS rfl
  have e54 : ∀ j, (tA σ 54 i (-1)).2 54 j = if j = i then -1 else σ.2 54 j := fun j => rfl
  refine ⟨h.sc.oS (by omega) ?_ (by omega), (a1 (by omega) (by omega)).fr hf rfl, (a2 (by omega)).fr hf rfl, (a3 (by omega) (by omega)).fr hf rfl, (a4 (by omega)).fr hf rfl, (a5 (by omega) (by omega)).fr hf rfl, ⟨fun j hj => ?_, fun z1 z2 => ?_⟩, a7, h.x⟩
  · unfold fst
    rw [if_neg (by omega), if_neg (by omega), if_neg (by omega), if_neg (by omega)]
  · by_cases e : j = i
    · subst e
      exact Or.inl ⟨by rw [e54, if_pos rfl], by rw [oS_o, if_pos ⟨rfl, rfl⟩]⟩
    · have := (h.sh.1 j hj).kp hk h.sc hj (h.sc.ne (by omega) (by omega) (by omega)) (fun hs => h.nS hj hs (by omega))
      unfold ShA at this ⊢
      rw [e54, if_neg e]
      exact this
  · rw [e54] at z1 z2
    by_cases e : 0 = i
    · rw [if_pos e] at z1; exact absurd rfl z1
    · rw [if_neg e] at z1
      by_cases e' : 1 = i
      · rw [if_pos e'] at z2; exact absurd rfl z2
      · omega
theorem oX0_drop {E : gE} {L : Nat → Nat} {γ : Gh} {σ : TS} {s : CSt} (h : CW E L γ σ s) {n : Int32} {r2 : Int32} {σ2 : TS} (h2 : (r2, σ2) = if 0 ≤ n.toInt ∧ n.toInt ≤ 1 then (if (σ.2 54 (Int32.toNatClampNeg n)).toInt < 0 then (-11, σ) else (σ.2 55 (Int32.toNatClampNeg n), tA σ 54 (Int32.toNatClampNeg n) (-1))) else (-1, σ)) : CMg E s yX0_drop cX0_drop 3 (some .int) 2 0 0 [.ref (L 0), .int n] (cQ E L r2 σ2) := by
  refine CMg.of (by decide) (Nat.le_of_ble_eq_true rfl) ?_
  rintro κ rfl hL hκ hr
  refine x_iload_n hκ dX0_drop_0 rfl ?_
  refine x_callSi hκ mX0_isSheet (by omega) (by decide) wX0_351 aX0_isSheet rfl (Nat.le_of_ble_eq_true rfl) dX0_drop_1 (fun r1 h1 => ?_)
  refine x_if_ne (tgt := 9) hκ dX0_drop_4 (by decide) (fun c4 => ?_) (fun c4 => ?_)
  · -- X0_drop 4T
    have i4 := h1.t c4
    try simp only [Int32.reduceToInt] at i4
    rw [if_pos i4] at h2
    obtain ⟨I, hI, rfl, -⟩ := i32_nat i4
    rw [nI_clamp (by omega)] at h2
    have hII : I < 2 := by omega
    rcases h.sh.1 I hII with ⟨g1, g2⟩ | ⟨g1, g2, g3, g4, g5, g6, g7, g8⟩
    · rw [if_pos (by rw [g1]; decide)] at h2
      obtain ⟨rfl, rfl⟩ := Prod.mk.inj h2
      refine x_aload_n hκ dX0_drop_9 rfl ?_
      refine c_get hκ kX0 (by (try simp (disch := omega) only [oS_k, oS_o, oS_a, oS_f, oS_n, aS_k, aS_o, aS_a, aS_f, aS_n, fS_k, fS_o, fS_a, fS_f, fS_n, nO_k, nO_o, nO_a, nA_k, nA_o, nA_a, nA_f, nA_n, nF_k, nF_o, nF_a, nF_f, nF_n, Nat.reduceEqDiff, ↓reduceIte, and_true, true_and, and_false, false_and, reduceCtorEq, xl_0, xl_1, xl_2, nI_add, nI_1, nm_2, nm_3, nm_4, nm_6, nm_7, nm_8, nm_12, nm_16, na_0, na_2, na_3, na_4, na_5, na_6, na_7, na_8, nm_p, nm_m, nI_clamp]); first | done | assumption | exact h.sc.k (by decide) | exact h.sc.kb (by omega) | exact h.sc.kbt (by omega) | exact h.sc.kbh (by omega) | exact h.sc.kba (by omega) | exact h.sc.kt (by omega) | exact h.sc.ktl (by omega) | exact h.sc.ks (by omega) | rfl) 21 (by decide) (Or.inl q651) rfl (by (try simp (disch := omega) only [oS_k, oS_o, oS_a, oS_f, oS_n, aS_k, aS_o, aS_a, aS_f, aS_n, fS_k, fS_o, fS_a, fS_f, fS_n, nO_k, nO_o, nO_a, nA_k, nA_o, nA_a, nA_f, nA_n, nF_k, nF_o, nF_a, nF_f, nF_n, Nat.reduceEqDiff, ↓reduceIte, and_true, true_and, and_false, false_and, reduceCtorEq, xl_0, xl_1, xl_2, nI_add, nI_1, nm_2, nm_3, nm_4, nm_6, nm_7, nm_8, nm_12, nm_16, na_0, na_2, na_3, na_4, na_5, na_6, na_7, na_8, nm_p, nm_m, nI_clamp]); first | exact h.sc.o (by decide) rfl | exact h.sc.ob1 (by omega) | exact h.sc.ob2 (by omega) | exact h.sc.ob3 (by omega) | exact h.sc.ot (by omega) | exact h.sc.fb (by omega) | exact h.sc.ft (by omega) (by omega) | exact h.sc.fs (by omega) | exact h.p.1 | exact h.p.2.2.2.2.1 | exact h.p.2.2.2.2.2.1 | exact h.p.2.2.2.2.2.2.1 | exact h.p.2.2.2.2.2.2.2.1 | exact h.p.2.2.2.2.2.2.2.2.1 | exact rfl) dX0_drop_10 ?_
      refine x_iload_n hκ dX0_drop_13 rfl ?_
      refine c_aald (t := 8) hκ (by (try simp (disch := omega) only [oS_k, oS_o, oS_a, oS_f, oS_n, aS_k, aS_o, aS_a, aS_f, aS_n, fS_k, fS_o, fS_a, fS_f, fS_n, nO_k, nO_o, nO_a, nA_k, nA_o, nA_a, nA_f, nA_n, nF_k, nF_o, nF_a, nF_f, nF_n, Nat.reduceEqDiff, ↓reduceIte, and_true, true_and, and_false, false_and, reduceCtorEq, xl_0, xl_1, xl_2, nI_add, nI_1, nm_2, nm_3, nm_4, nm_6, nm_7, nm_8, nm_12, nm_16, na_0, na_2, na_3, na_4, na_5, na_6, na_7, na_8, nm_p, nm_m, nI_clamp]); first | done | assumption | exact h.sc.k (by decide) | exact h.sc.kb (by omega) | exact h.sc.kbt (by omega) | exact h.sc.kbh (by omega) | exact h.sc.kba (by omega) | exact h.sc.kt (by omega) | exact h.sc.ktl (by omega) | exact h.sc.ks (by omega) | rfl) (by decide) (by decide) (by (try simp (disch := omega) only [oS_k, oS_o, oS_a, oS_f, oS_n, aS_k, aS_o, aS_a, aS_f, aS_n, fS_k, fS_o, fS_a, fS_f, fS_n, nO_k, nO_o, nO_a, nA_k, nA_o, nA_a, nA_f, nA_n, nF_k, nF_o, nF_a, nF_f, nF_n, Nat.reduceEqDiff, ↓reduceIte, and_true, true_and, and_false, false_and, reduceCtorEq, xl_0, xl_1, xl_2, nI_add, nI_1, nm_2, nm_3, nm_4, nm_6, nm_7, nm_8, nm_12, nm_16, na_0, na_2, na_3, na_4, na_5, na_6, na_7, na_8, nm_p, nm_m, nI_clamp]); first | exact h.sc.n3 | exact h.sc.n4 | exact h.sc.nbt (by omega) | exact h.sc.nbh (by omega) | exact h.sc.nba (by omega) | exact h.sc.n41 | exact h.sc.n42 | exact h.sc.n43 | exact h.sc.n45 | exact h.sc.n46 | exact h.sc.n48 | exact rfl) (by first | ((with_reducible refine vp_in_nI ?_ ?_) <;> omega) | exact i32_in (by omega) (by omega) | exact i32_in' (by simp only [Int32.toInt_add, Int32.toInt_mul, Int32.toInt_sub, Int32.reduceToInt, Int.bmod_add_bmod, Int.bmod_sub_bmod, Int.add_bmod_bmod, Int.sub_bmod_bmod, Int.bmod_mul_bmod, Int.mul_bmod_bmod]; exact i32_bm (by omega) (by omega)) (by omega) (by omega) | exact i32_in (by decide) (by decide)) (by (try simp (disch := omega) only [oS_k, oS_o, oS_a, oS_f, oS_n, aS_k, aS_o, aS_a, aS_f, aS_n, fS_k, fS_o, fS_a, fS_f, fS_n, nO_k, nO_o, nO_a, nA_k, nA_o, nA_a, nA_f, nA_n, nF_k, nF_o, nF_a, nF_f, nF_n, Nat.reduceEqDiff, ↓reduceIte, and_true, true_and, and_false, false_and, reduceCtorEq, xl_0, xl_1, xl_2, nI_add, nI_1, nm_2, nm_3, nm_4, nm_6, nm_7, nm_8, nm_12, nm_16, na_0, na_2, na_3, na_4, na_5, na_6, na_7, na_8, nm_p, nm_m, nI_clamp]); first | exact h.sc.o (by decide) rfl | exact h.sc.ob1 (by omega) | exact h.sc.ob2 (by omega) | exact h.sc.ob3 (by omega) | exact h.sc.ot (by omega) | exact h.sc.fb (by omega) | exact h.sc.ft (by omega) (by omega) | exact h.sc.fs (by omega) | exact h.p.1 | exact h.p.2.2.2.2.1 | exact h.p.2.2.2.2.2.1 | exact h.p.2.2.2.2.2.2.1 | exact h.p.2.2.2.2.2.2.2.1 | exact h.p.2.2.2.2.2.2.2.2.1 | exact rfl) dX0_drop_14 ?_
      refine c_get hκ kX7 (by (try simp (disch := omega) only [oS_k, oS_o, oS_a, oS_f, oS_n, aS_k, aS_o, aS_a, aS_f, aS_n, fS_k, fS_o, fS_a, fS_f, fS_n, nO_k, nO_o, nO_a, nA_k, nA_o, nA_a, nA_f, nA_n, nF_k, nF_o, nF_a, nF_f, nF_n, Nat.reduceEqDiff, ↓reduceIte, and_true, true_and, and_false, false_and, reduceCtorEq, xl_0, xl_1, xl_2, nI_add, nI_1, nm_2, nm_3, nm_4, nm_6, nm_7, nm_8, nm_12, nm_16, na_0, na_2, na_3, na_4, na_5, na_6, na_7, na_8, nm_p, nm_m, nI_clamp]); first | done | assumption | exact h.sc.k (by decide) | exact h.sc.kb (by omega) | exact h.sc.kbt (by omega) | exact h.sc.kbh (by omega) | exact h.sc.kba (by omega) | exact h.sc.kt (by omega) | exact h.sc.ktl (by omega) | exact h.sc.ks (by omega) | rfl) 0 (by decide) (Or.inr ⟨_, q625⟩) rfl (by exact g2) dX0_drop_15 ?_
      refine x_ifnonnullN hκ dX0_drop_18 ?_
      refine x_bipush (v := (-11)) hκ dX0_drop_21 (by decide) ?_
      refine c_reti hκ hr dX0_drop_23 ?_
      exact ⟨rfl, γ, h⟩
    · rw [if_neg (by rcases g1 with e | e <;> rw [e] <;> decide)] at h2
      obtain ⟨rfl, rfl⟩ := Prod.mk.inj h2
      have hq : s.1 (vS γ I) = 33 ∨ s.1 (vS γ I) = 30 := h.kS hII (by rcases g1 with e | e <;> rw [e] <;> decide)
      refine x_aload_n hκ dX0_drop_9 rfl ?_
      refine c_get hκ kX0 (by (try simp (disch := omega) only [oS_k, oS_o, oS_a, oS_f, oS_n, aS_k, aS_o, aS_a, aS_f, aS_n, fS_k, fS_o, fS_a, fS_f, fS_n, nO_k, nO_o, nO_a, nA_k, nA_o, nA_a, nA_f, nA_n, nF_k, nF_o, nF_a, nF_f, nF_n, Nat.reduceEqDiff, ↓reduceIte, and_true, true_and, and_false, false_and, reduceCtorEq, xl_0, xl_1, xl_2, nI_add, nI_1, nm_2, nm_3, nm_4, nm_6, nm_7, nm_8, nm_12, nm_16, na_0, na_2, na_3, na_4, na_5, na_6, na_7, na_8, nm_p, nm_m, nI_clamp]); first | done | assumption | exact h.sc.k (by decide) | exact h.sc.kb (by omega) | exact h.sc.kbt (by omega) | exact h.sc.kbh (by omega) | exact h.sc.kba (by omega) | exact h.sc.kt (by omega) | exact h.sc.ktl (by omega) | exact h.sc.ks (by omega) | rfl) 21 (by decide) (Or.inl q651) rfl (by (try simp (disch := omega) only [oS_k, oS_o, oS_a, oS_f, oS_n, aS_k, aS_o, aS_a, aS_f, aS_n, fS_k, fS_o, fS_a, fS_f, fS_n, nO_k, nO_o, nO_a, nA_k, nA_o, nA_a, nA_f, nA_n, nF_k, nF_o, nF_a, nF_f, nF_n, Nat.reduceEqDiff, ↓reduceIte, and_true, true_and, and_false, false_and, reduceCtorEq, xl_0, xl_1, xl_2, nI_add, nI_1, nm_2, nm_3, nm_4, nm_6, nm_7, nm_8, nm_12, nm_16, na_0, na_2, na_3, na_4, na_5, na_6, na_7, na_8, nm_p, nm_m, nI_clamp]); first | exact h.sc.o (by decide) rfl | exact h.sc.ob1 (by omega) | exact h.sc.ob2 (by omega) | exact h.sc.ob3 (by omega) | exact h.sc.ot (by omega) | exact h.sc.fb (by omega) | exact h.sc.ft (by omega) (by omega) | exact h.sc.fs (by omega) | exact h.p.1 | exact h.p.2.2.2.2.1 | exact h.p.2.2.2.2.2.1 | exact h.p.2.2.2.2.2.2.1 | exact h.p.2.2.2.2.2.2.2.1 | exact h.p.2.2.2.2.2.2.2.2.1 | exact rfl) dX0_drop_10 ?_
      refine x_iload_n hκ dX0_drop_13 rfl ?_
      refine c_aald (t := 8) hκ (by (try simp (disch := omega) only [oS_k, oS_o, oS_a, oS_f, oS_n, aS_k, aS_o, aS_a, aS_f, aS_n, fS_k, fS_o, fS_a, fS_f, fS_n, nO_k, nO_o, nO_a, nA_k, nA_o, nA_a, nA_f, nA_n, nF_k, nF_o, nF_a, nF_f, nF_n, Nat.reduceEqDiff, ↓reduceIte, and_true, true_and, and_false, false_and, reduceCtorEq, xl_0, xl_1, xl_2, nI_add, nI_1, nm_2, nm_3, nm_4, nm_6, nm_7, nm_8, nm_12, nm_16, na_0, na_2, na_3, na_4, na_5, na_6, na_7, na_8, nm_p, nm_m, nI_clamp]); first | done | assumption | exact h.sc.k (by decide) | exact h.sc.kb (by omega) | exact h.sc.kbt (by omega) | exact h.sc.kbh (by omega) | exact h.sc.kba (by omega) | exact h.sc.kt (by omega) | exact h.sc.ktl (by omega) | exact h.sc.ks (by omega) | rfl) (by decide) (by decide) (by (try simp (disch := omega) only [oS_k, oS_o, oS_a, oS_f, oS_n, aS_k, aS_o, aS_a, aS_f, aS_n, fS_k, fS_o, fS_a, fS_f, fS_n, nO_k, nO_o, nO_a, nA_k, nA_o, nA_a, nA_f, nA_n, nF_k, nF_o, nF_a, nF_f, nF_n, Nat.reduceEqDiff, ↓reduceIte, and_true, true_and, and_false, false_and, reduceCtorEq, xl_0, xl_1, xl_2, nI_add, nI_1, nm_2, nm_3, nm_4, nm_6, nm_7, nm_8, nm_12, nm_16, na_0, na_2, na_3, na_4, na_5, na_6, na_7, na_8, nm_p, nm_m, nI_clamp]); first | exact h.sc.n3 | exact h.sc.n4 | exact h.sc.nbt (by omega) | exact h.sc.nbh (by omega) | exact h.sc.nba (by omega) | exact h.sc.n41 | exact h.sc.n42 | exact h.sc.n43 | exact h.sc.n45 | exact h.sc.n46 | exact h.sc.n48 | exact rfl) (by first | ((with_reducible refine vp_in_nI ?_ ?_) <;> omega) | exact i32_in (by omega) (by omega) | exact i32_in' (by simp only [Int32.toInt_add, Int32.toInt_mul, Int32.toInt_sub, Int32.reduceToInt, Int.bmod_add_bmod, Int.bmod_sub_bmod, Int.add_bmod_bmod, Int.sub_bmod_bmod, Int.bmod_mul_bmod, Int.mul_bmod_bmod]; exact i32_bm (by omega) (by omega)) (by omega) (by omega) | exact i32_in (by decide) (by decide)) (by (try simp (disch := omega) only [oS_k, oS_o, oS_a, oS_f, oS_n, aS_k, aS_o, aS_a, aS_f, aS_n, fS_k, fS_o, fS_a, fS_f, fS_n, nO_k, nO_o, nO_a, nA_k, nA_o, nA_a, nA_f, nA_n, nF_k, nF_o, nF_a, nF_f, nF_n, Nat.reduceEqDiff, ↓reduceIte, and_true, true_and, and_false, false_and, reduceCtorEq, xl_0, xl_1, xl_2, nI_add, nI_1, nm_2, nm_3, nm_4, nm_6, nm_7, nm_8, nm_12, nm_16, na_0, na_2, na_3, na_4, na_5, na_6, na_7, na_8, nm_p, nm_m, nI_clamp]); first | exact h.sc.o (by decide) rfl | exact h.sc.ob1 (by omega) | exact h.sc.ob2 (by omega) | exact h.sc.ob3 (by omega) | exact h.sc.ot (by omega) | exact h.sc.fb (by omega) | exact h.sc.ft (by omega) (by omega) | exact h.sc.fs (by omega) | exact h.p.1 | exact h.p.2.2.2.2.1 | exact h.p.2.2.2.2.2.1 | exact h.p.2.2.2.2.2.2.1 | exact h.p.2.2.2.2.2.2.2.1 | exact h.p.2.2.2.2.2.2.2.2.1 | exact rfl) dX0_drop_14 ?_
      refine c_get hκ kX7 (by (try simp (disch := omega) only [oS_k, oS_o, oS_a, oS_f, oS_n, aS_k, aS_o, aS_a, aS_f, aS_n, fS_k, fS_o, fS_a, fS_f, fS_n, nO_k, nO_o, nO_a, nA_k, nA_o, nA_a, nA_f, nA_n, nF_k, nF_o, nF_a, nF_f, nF_n, Nat.reduceEqDiff, ↓reduceIte, and_true, true_and, and_false, false_and, reduceCtorEq, xl_0, xl_1, xl_2, nI_add, nI_1, nm_2, nm_3, nm_4, nm_6, nm_7, nm_8, nm_12, nm_16, na_0, na_2, na_3, na_4, na_5, na_6, na_7, na_8, nm_p, nm_m, nI_clamp]); first | done | assumption | exact h.sc.k (by decide) | exact h.sc.kb (by omega) | exact h.sc.kbt (by omega) | exact h.sc.kbh (by omega) | exact h.sc.kba (by omega) | exact h.sc.kt (by omega) | exact h.sc.ktl (by omega) | exact h.sc.ks (by omega) | rfl) 0 (by decide) (Or.inr ⟨_, q625⟩) rfl (by exact g2) dX0_drop_15 ?_
      refine x_ifnonnull (tgt := 24) hκ dX0_drop_18 (by decide) ?_
      refine x_aload_n hκ dX0_drop_24 rfl ?_
      refine c_get hκ kX0 (by (try simp (disch := omega) only [oS_k, oS_o, oS_a, oS_f, oS_n, aS_k, aS_o, aS_a, aS_f, aS_n, fS_k, fS_o, fS_a, fS_f, fS_n, nO_k, nO_o, nO_a, nA_k, nA_o, nA_a, nA_f, nA_n, nF_k, nF_o, nF_a, nF_f, nF_n, Nat.reduceEqDiff, ↓reduceIte, and_true, true_and, and_false, false_and, reduceCtorEq, xl_0, xl_1, xl_2, nI_add, nI_1, nm_2, nm_3, nm_4, nm_6, nm_7, nm_8, nm_12, nm_16, na_0, na_2, na_3, na_4, na_5, na_6, na_7, na_8, nm_p, nm_m, nI_clamp]); first | done | assumption | exact h.sc.k (by decide) | exact h.sc.kb (by omega) | exact h.sc.kbt (by omega) | exact h.sc.kbh (by omega) | exact h.sc.kba (by omega) | exact h.sc.kt (by omega) | exact h.sc.ktl (by omega) | exact h.sc.ks (by omega) | rfl) 21 (by decide) (Or.inl q651) rfl (by (try simp (disch := omega) only [oS_k, oS_o, oS_a, oS_f, oS_n, aS_k, aS_o, aS_a, aS_f, aS_n, fS_k, fS_o, fS_a, fS_f, fS_n, nO_k, nO_o, nO_a, nA_k, nA_o, nA_a, nA_f, nA_n, nF_k, nF_o, nF_a, nF_f, nF_n, Nat.reduceEqDiff, ↓reduceIte, and_true, true_and, and_false, false_and, reduceCtorEq, xl_0, xl_1, xl_2, nI_add, nI_1, nm_2, nm_3, nm_4, nm_6, nm_7, nm_8, nm_12, nm_16, na_0, na_2, na_3, na_4, na_5, na_6, na_7, na_8, nm_p, nm_m, nI_clamp]); first | exact h.sc.o (by decide) rfl | exact h.sc.ob1 (by omega) | exact h.sc.ob2 (by omega) | exact h.sc.ob3 (by omega) | exact h.sc.ot (by omega) | exact h.sc.fb (by omega) | exact h.sc.ft (by omega) (by omega) | exact h.sc.fs (by omega) | exact h.p.1 | exact h.p.2.2.2.2.1 | exact h.p.2.2.2.2.2.1 | exact h.p.2.2.2.2.2.2.1 | exact h.p.2.2.2.2.2.2.2.1 | exact h.p.2.2.2.2.2.2.2.2.1 | exact rfl) dX0_drop_25 ?_
      refine x_iload_n hκ dX0_drop_28 rfl ?_
      refine c_aald (t := 8) hκ (by (try simp (disch := omega) only [oS_k, oS_o, oS_a, oS_f, oS_n, aS_k, aS_o, aS_a, aS_f, aS_n, fS_k, fS_o, fS_a, fS_f, fS_n, nO_k, nO_o, nO_a, nA_k, nA_o, nA_a, nA_f, nA_n, nF_k, nF_o, nF_a, nF_f, nF_n, Nat.reduceEqDiff, ↓reduceIte, and_true, true_and, and_false, false_and, reduceCtorEq, xl_0, xl_1, xl_2, nI_add, nI_1, nm_2, nm_3, nm_4, nm_6, nm_7, nm_8, nm_12, nm_16, na_0, na_2, na_3, na_4, na_5, na_6, na_7, na_8, nm_p, nm_m, nI_clamp]); first | done | assumption | exact h.sc.k (by decide) | exact h.sc.kb (by omega) | exact h.sc.kbt (by omega) | exact h.sc.kbh (by omega) | exact h.sc.kba (by omega) | exact h.sc.kt (by omega) | exact h.sc.ktl (by omega) | exact h.sc.ks (by omega) | rfl) (by decide) (by decide) (by (try simp (disch := omega) only [oS_k, oS_o, oS_a, oS_f, oS_n, aS_k, aS_o, aS_a, aS_f, aS_n, fS_k, fS_o, fS_a, fS_f, fS_n, nO_k, nO_o, nO_a, nA_k, nA_o, nA_a, nA_f, nA_n, nF_k, nF_o, nF_a, nF_f, nF_n, Nat.reduceEqDiff, ↓reduceIte, and_true, true_and, and_false, false_and, reduceCtorEq, xl_0, xl_1, xl_2, nI_add, nI_1, nm_2, nm_3, nm_4, nm_6, nm_7, nm_8, nm_12, nm_16, na_0, na_2, na_3, na_4, na_5, na_6, na_7, na_8, nm_p, nm_m, nI_clamp]); first | exact h.sc.n3 | exact h.sc.n4 | exact h.sc.nbt (by omega) | exact h.sc.nbh (by omega) | exact h.sc.nba (by omega) | exact h.sc.n41 | exact h.sc.n42 | exact h.sc.n43 | exact h.sc.n45 | exact h.sc.n46 | exact h.sc.n48 | exact rfl) (by first | ((with_reducible refine vp_in_nI ?_ ?_) <;> omega) | exact i32_in (by omega) (by omega) | exact i32_in' (by simp only [Int32.toInt_add, Int32.toInt_mul, Int32.toInt_sub, Int32.reduceToInt, Int.bmod_add_bmod, Int.bmod_sub_bmod, Int.add_bmod_bmod, Int.sub_bmod_bmod, Int.bmod_mul_bmod, Int.mul_bmod_bmod]; exact i32_bm (by omega) (by omega)) (by omega) (by omega) | exact i32_in (by decide) (by decide)) (by (try simp (disch := omega) only [oS_k, oS_o, oS_a, oS_f, oS_n, aS_k, aS_o, aS_a, aS_f, aS_n, fS_k, fS_o, fS_a, fS_f, fS_n, nO_k, nO_o, nO_a, nA_k, nA_o, nA_a, nA_f, nA_n, nF_k, nF_o, nF_a, nF_f, nF_n, Nat.reduceEqDiff, ↓reduceIte, and_true, true_and, and_false, false_and, reduceCtorEq, xl_0, xl_1, xl_2, nI_add, nI_1, nm_2, nm_3, nm_4, nm_6, nm_7, nm_8, nm_12, nm_16, na_0, na_2, na_3, na_4, na_5, na_6, na_7, na_8, nm_p, nm_m, nI_clamp]); first | exact h.sc.o (by decide) rfl | exact h.sc.ob1 (by omega) | exact h.sc.ob2 (by omega) | exact h.sc.ob3 (by omega) | exact h.sc.ot (by omega) | exact h.sc.fb (by omega) | exact h.sc.ft (by omega) (by omega) | exact h.sc.fs (by omega) | exact h.p.1 | exact h.p.2.2.2.2.1 | exact h.p.2.2.2.2.2.1 | exact h.p.2.2.2.2.2.2.1 | exact h.p.2.2.2.2.2.2.2.1 | exact h.p.2.2.2.2.2.2.2.2.1 | exact rfl) dX0_drop_29 ?_
      refine c_callV  hκ (mX7_size (h.sc.ks hII) g2 hq) (by omega) (by decide) wX0_364 aX7_size kX7 (by (try simp (disch := omega) only [oS_k, oS_o, oS_a, oS_f, oS_n, aS_k, aS_o, aS_a, aS_f, aS_n, fS_k, fS_o, fS_a, fS_f, fS_n, nO_k, nO_o, nO_a, nA_k, nA_o, nA_a, nA_f, nA_n, nF_k, nF_o, nF_a, nF_f, nF_n, Nat.reduceEqDiff, ↓reduceIte, and_true, true_and, and_false, false_and, reduceCtorEq, xl_0, xl_1, xl_2, nI_add, nI_1, nm_2, nm_3, nm_4, nm_6, nm_7, nm_8, nm_12, nm_16, na_0, na_2, na_3, na_4, na_5, na_6, na_7, na_8, nm_p, nm_m, nI_clamp]); first | done | assumption | exact h.sc.k (by decide) | exact h.sc.kb (by omega) | exact h.sc.kbt (by omega) | exact h.sc.kbh (by omega) | exact h.sc.kba (by omega) | exact h.sc.kt (by omega) | exact h.sc.ktl (by omega) | exact h.sc.ks (by omega) | rfl) rfl (Nat.le_of_ble_eq_true rfl) dX0_drop_30 (jIr (fun r30 h30 => ?_))
      refine x_istore_n hκ dX0_drop_33 (by rw [hL]; decide) rfl ?_
      refine x_aload_n hκ dX0_drop_34 rfl ?_
      refine c_get hκ kX0 (by (try simp (disch := omega) only [oS_k, oS_o, oS_a, oS_f, oS_n, aS_k, aS_o, aS_a, aS_f, aS_n, fS_k, fS_o, fS_a, fS_f, fS_n, nO_k, nO_o, nO_a, nA_k, nA_o, nA_a, nA_f, nA_n, nF_k, nF_o, nF_a, nF_f, nF_n, Nat.reduceEqDiff, ↓reduceIte, and_true, true_and, and_false, false_and, reduceCtorEq, xl_0, xl_1, xl_2, nI_add, nI_1, nm_2, nm_3, nm_4, nm_6, nm_7, nm_8, nm_12, nm_16, na_0, na_2, na_3, na_4, na_5, na_6, na_7, na_8, nm_p, nm_m, nI_clamp]); first | done | assumption | exact h.sc.k (by decide) | exact h.sc.kb (by omega) | exact h.sc.kbt (by omega) | exact h.sc.kbh (by omega) | exact h.sc.kba (by omega) | exact h.sc.kt (by omega) | exact h.sc.ktl (by omega) | exact h.sc.ks (by omega) | rfl) 21 (by decide) (Or.inl q651) rfl (by (try simp (disch := omega) only [oS_k, oS_o, oS_a, oS_f, oS_n, aS_k, aS_o, aS_a, aS_f, aS_n, fS_k, fS_o, fS_a, fS_f, fS_n, nO_k, nO_o, nO_a, nA_k, nA_o, nA_a, nA_f, nA_n, nF_k, nF_o, nF_a, nF_f, nF_n, Nat.reduceEqDiff, ↓reduceIte, and_true, true_and, and_false, false_and, reduceCtorEq, xl_0, xl_1, xl_2, nI_add, nI_1, nm_2, nm_3, nm_4, nm_6, nm_7, nm_8, nm_12, nm_16, na_0, na_2, na_3, na_4, na_5, na_6, na_7, na_8, nm_p, nm_m, nI_clamp]); first | exact h.sc.o (by decide) rfl | exact h.sc.ob1 (by omega) | exact h.sc.ob2 (by omega) | exact h.sc.ob3 (by omega) | exact h.sc.ot (by omega) | exact h.sc.fb (by omega) | exact h.sc.ft (by omega) (by omega) | exact h.sc.fs (by omega) | exact h.p.1 | exact h.p.2.2.2.2.1 | exact h.p.2.2.2.2.2.1 | exact h.p.2.2.2.2.2.2.1 | exact h.p.2.2.2.2.2.2.2.1 | exact h.p.2.2.2.2.2.2.2.2.1 | exact rfl) dX0_drop_35 ?_
      refine x_iload_n hκ dX0_drop_38 rfl ?_
      refine c_aald (t := 8) hκ (by (try simp (disch := omega) only [oS_k, oS_o, oS_a, oS_f, oS_n, aS_k, aS_o, aS_a, aS_f, aS_n, fS_k, fS_o, fS_a, fS_f, fS_n, nO_k, nO_o, nO_a, nA_k, nA_o, nA_a, nA_f, nA_n, nF_k, nF_o, nF_a, nF_f, nF_n, Nat.reduceEqDiff, ↓reduceIte, and_true, true_and, and_false, false_and, reduceCtorEq, xl_0, xl_1, xl_2, nI_add, nI_1, nm_2, nm_3, nm_4, nm_6, nm_7, nm_8, nm_12, nm_16, na_0, na_2, na_3, na_4, na_5, na_6, na_7, na_8, nm_p, nm_m, nI_clamp]); first | done | assumption | exact h.sc.k (by decide) | exact h.sc.kb (by omega) | exact h.sc.kbt (by omega) | exact h.sc.kbh (by omega) | exact h.sc.kba (by omega) | exact h.sc.kt (by omega) | exact h.sc.ktl (by omega) | exact h.sc.ks (by omega) | rfl) (by decide) (by decide) (by (try simp (disch := omega) only [oS_k, oS_o, oS_a, oS_f, oS_n, aS_k, aS_o, aS_a, aS_f, aS_n, fS_k, fS_o, fS_a, fS_f, fS_n, nO_k, nO_o, nO_a, nA_k, nA_o, nA_a, nA_f, nA_n, nF_k, nF_o, nF_a, nF_f, nF_n, Nat.reduceEqDiff, ↓reduceIte, and_true, true_and, and_false, false_and, reduceCtorEq, xl_0, xl_1, xl_2, nI_add, nI_1, nm_2, nm_3, nm_4, nm_6, nm_7, nm_8, nm_12, nm_16, na_0, na_2, na_3, na_4, na_5, na_6, na_7, na_8, nm_p, nm_m, nI_clamp]); first | exact h.sc.n3 | exact h.sc.n4 | exact h.sc.nbt (by omega) | exact h.sc.nbh (by omega) | exact h.sc.nba (by omega) | exact h.sc.n41 | exact h.sc.n42 | exact h.sc.n43 | exact h.sc.n45 | exact h.sc.n46 | exact h.sc.n48 | exact rfl) (by first | ((with_reducible refine vp_in_nI ?_ ?_) <;> omega) | exact i32_in (by omega) (by omega) | exact i32_in' (by simp only [Int32.toInt_add, Int32.toInt_mul, Int32.toInt_sub, Int32.reduceToInt, Int.bmod_add_bmod, Int.bmod_sub_bmod, Int.add_bmod_bmod, Int.sub_bmod_bmod, Int.bmod_mul_bmod, Int.mul_bmod_bmod]; exact i32_bm (by omega) (by omega)) (by omega) (by omega) | exact i32_in (by decide) (by decide)) (by (try simp (disch := omega) only [oS_k, oS_o, oS_a, oS_f, oS_n, aS_k, aS_o, aS_a, aS_f, aS_n, fS_k, fS_o, fS_a, fS_f, fS_n, nO_k, nO_o, nO_a, nA_k, nA_o, nA_a, nA_f, nA_n, nF_k, nF_o, nF_a, nF_f, nF_n, Nat.reduceEqDiff, ↓reduceIte, and_true, true_and, and_false, false_and, reduceCtorEq, xl_0, xl_1, xl_2, nI_add, nI_1, nm_2, nm_3, nm_4, nm_6, nm_7, nm_8, nm_12, nm_16, na_0, na_2, na_3, na_4, na_5, na_6, na_7, na_8, nm_p, nm_m, nI_clamp]); first | exact h.sc.o (by decide) rfl | exact h.sc.ob1 (by omega) | exact h.sc.ob2 (by omega) | exact h.sc.ob3 (by omega) | exact h.sc.ot (by omega) | exact h.sc.fb (by omega) | exact h.sc.ft (by omega) (by omega) | exact h.sc.fs (by omega) | exact h.p.1 | exact h.p.2.2.2.2.1 | exact h.p.2.2.2.2.2.1 | exact h.p.2.2.2.2.2.2.1 | exact h.p.2.2.2.2.2.2.2.1 | exact h.p.2.2.2.2.2.2.2.2.1 | exact rfl) dX0_drop_39 ?_
      refine x_null hκ dX0_drop_40 ?_
      refine c_put hκ kX7 (by (try simp (disch := omega) only [oS_k, oS_o, oS_a, oS_f, oS_n, aS_k, aS_o, aS_a, aS_f, aS_n, fS_k, fS_o, fS_a, fS_f, fS_n, nO_k, nO_o, nO_a, nA_k, nA_o, nA_a, nA_f, nA_n, nF_k, nF_o, nF_a, nF_f, nF_n, Nat.reduceEqDiff, ↓reduceIte, and_true, true_and, and_false, false_and, reduceCtorEq, xl_0, xl_1, xl_2, nI_add, nI_1, nm_2, nm_3, nm_4, nm_6, nm_7, nm_8, nm_12, nm_16, na_0, na_2, na_3, na_4, na_5, na_6, na_7, na_8, nm_p, nm_m, nI_clamp]); first | done | assumption | exact h.sc.k (by decide) | exact h.sc.kb (by omega) | exact h.sc.kbt (by omega) | exact h.sc.kbh (by omega) | exact h.sc.kba (by omega) | exact h.sc.kt (by omega) | exact h.sc.ktl (by omega) | exact h.sc.ks (by omega) | rfl) 0 (by decide) (Or.inr ⟨_, q625⟩) rfl rfl (by rfl) (by rfl) dX0_drop_41 ?_
      refine x_iload_n hκ dX0_drop_44 rfl ?_
      refine c_reti hκ hr dX0_drop_45 ?_
      exact ⟨h30.trans g4.symm, γ, h.drop hII⟩
  · -- X0_drop 4F
    have i4 := h1.f c4
    try simp only [Int32.reduceToInt] at i4
    refine x_iconst (v := (-1)) hκ dX0_drop_7 (by decide) ?_
    refine c_reti hκ hr dX0_drop_8 ?_
    rw [if_neg i4] at h2
    obtain ⟨rfl, rfl⟩ := Prod.mk.inj h2
    exact ⟨rfl, γ, h⟩
