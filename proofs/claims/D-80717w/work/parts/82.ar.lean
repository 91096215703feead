theorem wX5_59 : GoodIn lw_all (wsV RX5 59 RX16 yX16_isFor (ws_ yX16_isFor cX16_isFor 2 (some .boolean))) := lw_V q833 q792 q793 q97 q794
theorem aX16_isFor : yX16_isFor.cls = RX16 ∧ yX16_isFor.cls ≠ "java/lang/invoke/MethodHandle" ∧ yX16_isFor.cls ≠ "java/lang/invoke/VarHandle" ∧ (parseMethodDescriptor yX16_isFor.desc).map (fun d => d.parameters.length) = some 1 := by decide +kernel
theorem wX5_63 : GoodIn lw_all (wsV RX5 63 RX16 yX16_hasWord (ws_ yX16_hasWord cX16_hasWord 2 (some .boolean))) := lw_V q834 q835 q836 q97 q837
/-! the component: a letter arrives -/
theorem bt_1 : ∀ i : Fin 32, bt 1 i.val = decide (i.val = 0) := by decide +kernel
theorem bt_2 : ∀ i : Fin 32, bt 2 i.val = decide (i.val = 1) := by decide +kernel
theorem and_1 (x : Int32) : ¬ x &&& 1 = 0 ↔ x &&& 1 = 1 := by
  have e : x &&& 1 = if bt x 0 = true then 1 else 0 := by
    refine b_ext fun i hi => ?_
    have h1 := bt_1 ⟨i, hi⟩
    simp only at h1
    rw [b_and, h1]
    by_cases e : i = 0
    · subst e
      cases hb : bt x 0
      · rw [if_neg (by decide)]; rfl
      · rw [if_pos rfl]; rfl
    · rw [decide_eq_false e, Bool.and_false]
      split
      · rw [h1, decide_eq_false e]
      · rw [b_0]
  rw [e]
  split <;> decide
theorem and_2 (x : Int32) : ¬ x &&& 2 = 0 ↔ x &&& 2 = 2 := by
  have e : x &&& 2 = if bt x 1 = true then 2 else 0 := by
    refine b_ext fun i hi => ?_
    have h1 := bt_2 ⟨i, hi⟩
    simp only at h1
    rw [b_and, h1]
    by_cases e : i = 1
    · subst e
      cases hb : bt x 1
      · rw [if_neg (by decide)]; rfl
      · rw [if_pos rfl]; rfl
    · rw [decide_eq_false e, Bool.and_false]
      split
      · rw [h1, decide_eq_false e]
      · rw [b_0]
  rw [e]
  split <;> decide
/-- an atom's truth of letter l at box b -/
theorem mX5_isTrue {E : gE} {L : Nat → Nat} {γ : Gh} {σ : TS} {c : Int32} {s : CSt} (h : CWc E L γ σ c s) {l b : Nat} (hl : l < vN γ) (hb : b < 3) (h1 : s.2.1 (L 44) 1 = .ref (vL γ l)) (h2 : s.2.1 (L 44) 2 = .ref (L (5 + b))) (hid : 0 ≤ (σ.2 31 l).toInt ∧ (σ.2 31 l).toInt ≤ 10209) (hrf : (σ.2 32 l).toInt ≤ 10209) (hhad : ∀ j : Nat, σ.2 34 j = 0 ∨ σ.2 34 j = 1) {Z : Nat → Prop} {a p d : Nat} {x : Int32} (hd : 2 < d) (ha : AtA Z s a p x) : CMg E s yX5_isTrue cX5_isTrue 2 (some .boolean) d 0 0 [.ref (L 44), .ref a] (qI (fun r s' => Tz (so σ l b (Int32.toNatClampNeg x)) r ∧ s' = s)) := by
  obtain ⟨-, ka, k, n, hk, hn, rfl, g1, g2, -⟩ := ha
  obtain ⟨l1, l2, l3, l4⟩ := h.lt hl
  have e1 : (1000000 * k + n) / 1000000 = k := by omega
  have e2 : (1000000 * k + n) % 1000000 = n := by omega
  rw [nI_clamp (by omega)]
  unfold so
  rw [e1, e2]
  obtain ⟨b1, b2, b3, b4⟩ := h.b b hb
  refine CMg.of (by decide) (Nat.le_of_ble_eq_true rfl) ?_
  rintro κ rfl hL hκ hr
  rcases (show k = 0 ∨ k = 1 ∨ k = 2 ∨ k = 3 ∨ k = 4 ∨ k = 5 ∨ k = 6 ∨ k = 7 ∨ k = 8 by omega) with rfl | rfl | rfl | rfl | rfl | rfl | rfl | rfl | rfl
  · skip
    refine x_aload_n hκ dX5_isTrue_0 rfl ?_
    refine c_get hκ kX12 (by exact ka) 0 (by decide) (Or.inr ⟨_, q258⟩) rfl (by exact g1) dX5_isTrue_1 ?_
    refine x_lookup (off := 76) (tgt := 80) hκ dX5_isTrue_4 (by decide) (by decide) (by decide) ?_
    refine x_aload_n hκ dX5_isTrue_80 rfl ?_
    refine c_get hκ kX5 (by (try simp (disch := omega) only [oS_k, oS_o, oS_a, oS_f, oS_n, aS_k, aS_o, aS_a, aS_f, aS_n, fS_k, fS_o, fS_a, fS_f, fS_n, nO_k, nO_o, nO_a, nA_k, nA_o, nA_a, nA_f, nA_n, nF_k, nF_o, nF_a, nF_f, nF_n, Nat.reduceEqDiff, ↓reduceIte, and_true, true_and, and_false, false_and, reduceCtorEq, xl_0, xl_1, xl_2, nI_add, nI_1, nm_2, nm_3, nm_4, nm_6, nm_7, nm_8, nm_12, nm_16, na_0, na_2, na_3, na_4, na_5, na_6, na_7, na_8, nm_p, nm_m, nI_clamp]); first | done | assumption | exact h.sc.k (by decide) | exact h.sc.kb (by omega) | exact h.sc.kbt (by omega) | exact h.sc.kbh (by omega) | exact h.sc.kba (by omega) | exact h.sc.kt (by omega) | exact h.sc.ktl (by omega) | exact h.sc.ks (by omega) | rfl) 1 (by decide) (Or.inl q568) rfl (by exact h1) dX5_isTrue_81 ?_
    refine c_get hκ kX16 (by exact l1) 1 (by decide) (Or.inr ⟨_, q747⟩) rfl (by exact (l4 1 (by decide) (by decide))) dX5_isTrue_84 ?_
    refine x_aload_n hκ dX5_isTrue_87 rfl ?_
    refine c_get hκ kX12 (by exact ka) 1 (by decide) (Or.inr ⟨_, q261⟩) rfl (by exact g2) dX5_isTrue_88 ?_
    refine x_icmp_ne (tgt := 98) hκ dX5_isTrue_91 (by decide) (fun c91 => ?_) (fun c91 => ?_)
    · -- X5_isTrue 91T
      have i91 := c91
      simp (disch := omega) only [i32_lt, i32_le, i32_eq, Int32.reduceToInt, nI_toInt] at i91
      refine x_iconst (v := 0) hκ dX5_isTrue_98 (by decide) ?_
      refine c_retz hκ hr dX5_isTrue_99 (by first | exact Or.inl rfl | exact Or.inr rfl | assumption) ?_
      rw [if_pos rfl]
      exact ⟨Tz0 c91, rfl⟩
    · -- X5_isTrue 91F
      have i91 := c91
      simp (disch := omega) only [i32_lt, i32_le, i32_eq, Int32.reduceToInt, nI_toInt] at i91
      refine x_iconst (v := 1) hκ dX5_isTrue_94 (by decide) ?_
      refine x_goto (tgt := 99) hκ dX5_isTrue_95 (by decide) ?_
      refine c_retz hκ hr dX5_isTrue_99 (by first | exact Or.inl rfl | exact Or.inr rfl | assumption) ?_
      rw [if_pos rfl]
      exact ⟨Tz1 c91, rfl⟩
  · skip
    refine x_aload_n hκ dX5_isTrue_0 rfl ?_
    refine c_get hκ kX12 (by exact ka) 0 (by decide) (Or.inr ⟨_, q258⟩) rfl (by exact g1) dX5_isTrue_1 ?_
    refine x_lookup (off := 96) (tgt := 100) hκ dX5_isTrue_4 (by decide) (by decide) (by decide) ?_
    refine x_aload_n hκ dX5_isTrue_100 rfl ?_
    refine c_get hκ kX5 (by (try simp (disch := omega) only [oS_k, oS_o, oS_a, oS_f, oS_n, aS_k, aS_o, aS_a, aS_f, aS_n, fS_k, fS_o, fS_a, fS_f, fS_n, nO_k, nO_o, nO_a, nA_k, nA_o, nA_a, nA_f, nA_n, nF_k, nF_o, nF_a, nF_f, nF_n, Nat.reduceEqDiff, ↓reduceIte, and_true, true_and, and_false, false_and, reduceCtorEq, xl_0, xl_1, xl_2, nI_add, nI_1, nm_2, nm_3, nm_4, nm_6, nm_7, nm_8, nm_12, nm_16, na_0, na_2, na_3, na_4, na_5, na_6, na_7, na_8, nm_p, nm_m, nI_clamp]); first | done | assumption | exact h.sc.k (by decide) | exact h.sc.kb (by omega) | exact h.sc.kbt (by omega) | exact h.sc.kbh (by omega) | exact h.sc.kba (by omega) | exact h.sc.kt (by omega) | exact h.sc.ktl (by omega) | exact h.sc.ks (by omega) | rfl) 1 (by decide) (Or.inl q568) rfl (by exact h1) dX5_isTrue_101 ?_
    refine x_aload_n hκ dX5_isTrue_104 rfl ?_
    refine c_get hκ kX12 (by exact ka) 1 (by decide) (Or.inr ⟨_, q261⟩) rfl (by exact g2) dX5_isTrue_105 ?_
    refine c_callV  hκ (mX16_isFor l1 (l4 2 (by decide) (by decide))) (by omega) (by decide) wX5_59 aX16_isFor kX16 (by exact l1) rfl (Nat.le_of_ble_eq_true rfl) dX5_isTrue_108 (jIr (fun r108 h108 => ?_))
    refine c_retz hκ hr dX5_isTrue_111 h108.b ?_
    rw [if_neg (by decide), if_pos rfl]
    exact ⟨h108, rfl⟩
  · skip
    refine x_aload_n hκ dX5_isTrue_0 rfl ?_
    refine c_get hκ kX12 (by exact ka) 0 (by decide) (Or.inr ⟨_, q258⟩) rfl (by exact g1) dX5_isTrue_1 ?_
    refine x_lookup (off := 108) (tgt := 112) hκ dX5_isTrue_4 (by decide) (by decide) (by decide) ?_
    refine x_aload_n hκ dX5_isTrue_112 rfl ?_
    refine c_get hκ kX5 (by (try simp (disch := omega) only [oS_k, oS_o, oS_a, oS_f, oS_n, aS_k, aS_o, aS_a, aS_f, aS_n, fS_k, fS_o, fS_a, fS_f, fS_n, nO_k, nO_o, nO_a, nA_k, nA_o, nA_a, nA_f, nA_n, nF_k, nF_o, nF_a, nF_f, nF_n, Nat.reduceEqDiff, ↓reduceIte, and_true, true_and, and_false, false_and, reduceCtorEq, xl_0, xl_1, xl_2, nI_add, nI_1, nm_2, nm_3, nm_4, nm_6, nm_7, nm_8, nm_12, nm_16, na_0, na_2, na_3, na_4, na_5, na_6, na_7, na_8, nm_p, nm_m, nI_clamp]); first | done | assumption | exact h.sc.k (by decide) | exact h.sc.kb (by omega) | exact h.sc.kbt (by omega) | exact h.sc.kbh (by omega) | exact h.sc.kba (by omega) | exact h.sc.kt (by omega) | exact h.sc.ktl (by omega) | exact h.sc.ks (by omega) | rfl) 1 (by decide) (Or.inl q568) rfl (by exact h1) dX5_isTrue_113 ?_
    refine x_aload_n hκ dX5_isTrue_116 rfl ?_
    refine c_get hκ kX12 (by exact ka) 1 (by decide) (Or.inr ⟨_, q261⟩) rfl (by exact g2) dX5_isTrue_117 ?_
    refine c_callV  hκ (mX16_hasWord l1 (l4 3 (by decide) (by decide))) (by omega) (by decide) wX5_63 aX16_hasWord kX16 (by exact l1) rfl (Nat.le_of_ble_eq_true rfl) dX5_isTrue_120 (jIr (fun r120 h120 => ?_))
    refine c_retz hκ hr dX5_isTrue_123 h120.b ?_
    rw [if_neg (by decide), if_neg (by decide), if_pos rfl]
    exact ⟨h120, rfl⟩
  · skip
    refine x_aload_n hκ dX5_isTrue_0 rfl ?_
    refine c_get hκ kX12 (by exact ka) 0 (by decide) (Or.inr ⟨_, q258⟩) rfl (by exact g1) dX5_isTrue_1 ?_
    refine x_lookup (off := 120) (tgt := 124) hκ dX5_isTrue_4 (by decide) (by decide) (by decide) ?_
    refine x_aload_n hκ dX5_isTrue_124 rfl ?_
    refine c_get hκ kX5 (by (try simp (disch := omega) only [oS_k, oS_o, oS_a, oS_f, oS_n, aS_k, aS_o, aS_a, aS_f, aS_n, fS_k, fS_o, fS_a, fS_f, fS_n, nO_k, nO_o, nO_a, nA_k, nA_o, nA_a, nA_f, nA_n, nF_k, nF_o, nF_a, nF_f, nF_n, Nat.reduceEqDiff, ↓reduceIte, and_true, true_and, and_false, false_and, reduceCtorEq, xl_0, xl_1, xl_2, nI_add, nI_1, nm_2, nm_3, nm_4, nm_6, nm_7, nm_8, nm_12, nm_16, na_0, na_2, na_3, na_4, na_5, na_6, na_7, na_8, nm_p, nm_m, nI_clamp]); first | done | assumption | exact h.sc.k (by decide) | exact h.sc.kb (by omega) | exact h.sc.kbt (by omega) | exact h.sc.kbh (by omega) | exact h.sc.kba (by omega) | exact h.sc.kt (by omega) | exact h.sc.ktl (by omega) | exact h.sc.ks (by omega) | rfl) 1 (by decide) (Or.inl q568) rfl (by exact h1) dX5_isTrue_125 ?_
    refine c_get hκ kX16 (by exact l1) 4 (by decide) (Or.inr ⟨_, q754⟩) rfl (by exact (l4 4 (by decide) (by decide))) dX5_isTrue_128 ?_
    refine x_aload_n hκ dX5_isTrue_131 rfl ?_
    refine c_get hκ kX12 (by exact ka) 1 (by decide) (Or.inr ⟨_, q261⟩) rfl (by exact g2) dX5_isTrue_132 ?_
    refine x_icmp_le (tgt := 142) hκ dX5_isTrue_135 (by decide) (fun c135 => ?_) (fun c135 => ?_)
    · -- X5_isTrue 135T
      have i135 := c135
      simp (disch := omega) only [i32_lt, i32_le, i32_eq, Int32.reduceToInt, nI_toInt] at i135
      refine x_iconst (v := 0) hκ dX5_isTrue_142 (by decide) ?_
      refine c_retz hκ hr dX5_isTrue_143 (by first | exact Or.inl rfl | exact Or.inr rfl | assumption) ?_
      rw [if_neg (by decide), if_neg (by decide), if_neg (by decide), if_pos rfl]
      exact ⟨Tz0 (Int32.not_lt.mpr c135), rfl⟩
    · -- X5_isTrue 135F
      have i135 := c135
      simp (disch := omega) only [i32_lt, i32_le, i32_eq, Int32.reduceToInt, nI_toInt] at i135
      refine x_iconst (v := 1) hκ dX5_isTrue_138 (by decide) ?_
      refine x_goto (tgt := 143) hκ dX5_isTrue_139 (by decide) ?_
      refine c_retz hκ hr dX5_isTrue_143 (by first | exact Or.inl rfl | exact Or.inr rfl | assumption) ?_
      rw [if_neg (by decide), if_neg (by decide), if_neg (by decide), if_pos rfl]
      exact ⟨Tz1 (Int32.not_le.mp c135), rfl⟩
  · skip
    refine x_aload_n hκ dX5_isTrue_0 rfl ?_
    refine c_get hκ kX12 (by exact ka) 0 (by decide) (Or.inr ⟨_, q258⟩) rfl (by exact g1) dX5_isTrue_1 ?_
    refine x_lookup (off := 140) (tgt := 144) hκ dX5_isTrue_4 (by decide) (by decide) (by decide) ?_
    refine x_aload_n hκ dX5_isTrue_144 rfl ?_
    refine c_get hκ kX5 (by (try simp (disch := omega) only [oS_k, oS_o, oS_a, oS_f, oS_n, aS_k, aS_o, aS_a, aS_f, aS_n, fS_k, fS_o, fS_a, fS_f, fS_n, nO_k, nO_o, nO_a, nA_k, nA_o, nA_a, nA_f, nA_n, nF_k, nF_o, nF_a, nF_f, nF_n, Nat.reduceEqDiff, ↓reduceIte, and_true, true_and, and_false, false_and, reduceCtorEq, xl_0, xl_1, xl_2, nI_add, nI_1, nm_2, nm_3, nm_4, nm_6, nm_7, nm_8, nm_12, nm_16, na_0, na_2, na_3, na_4, na_5, na_6, na_7, na_8, nm_p, nm_m, nI_clamp]); first | done | assumption | exact h.sc.k (by decide) | exact h.sc.kb (by omega) | exact h.sc.kbt (by omega) | exact h.sc.kbh (by omega) | exact h.sc.kba (by omega) | exact h.sc.kt (by omega) | exact h.sc.ktl (by omega) | exact h.sc.ks (by omega) | rfl) 1 (by decide) (Or.inl q568) rfl (by exact h1) dX5_isTrue_145 ?_
    refine c_get hκ kX16 (by exact l1) 5 (by decide) (Or.inr ⟨_, q757⟩) rfl (by exact (l4 5 (by decide) (by decide))) dX5_isTrue_148 ?_
    refine x_iconst (v := 1) hκ dX5_isTrue_151 (by decide) ?_
    refine x_iand hκ dX5_isTrue_152 ?_
    refine x_if_eq (tgt := 160) hκ dX5_isTrue_153 (by decide) (fun c153 => ?_) (fun c153 => ?_)
    · -- X5_isTrue 153T
      have i153 := c153
      simp (disch := omega) only [i32_lt, i32_le, i32_eq, Int32.reduceToInt, nI_toInt] at i153
      refine x_iconst (v := 0) hκ dX5_isTrue_160 (by decide) ?_
      refine c_retz hκ hr dX5_isTrue_161 (by first | exact Or.inl rfl | exact Or.inr rfl | assumption) ?_
      rw [if_neg (by decide), if_neg (by decide), if_neg (by decide), if_neg (by decide), if_pos rfl]
      exact ⟨Tz0 (fun z => (and_1 _).mpr z c153), rfl⟩
    · -- X5_isTrue 153F
      have i153 := c153
      simp (disch := omega) only [i32_lt, i32_le, i32_eq, Int32.reduceToInt, nI_toInt] at i153
      refine x_iconst (v := 1) hκ dX5_isTrue_156 (by decide) ?_
      refine x_goto (tgt := 161) hκ dX5_isTrue_157 (by decide) ?_
      refine c_retz hκ hr dX5_isTrue_161 (by first | exact Or.inl rfl | exact Or.inr rfl | assumption) ?_
      rw [if_neg (by decide), if_neg (by decide), if_neg (by decide), if_neg (by decide), if_pos rfl]
      exact ⟨Tz1 ((and_1 _).mp c153), rfl⟩
  · skip
    refine x_aload_n hκ dX5_isTrue_0 rfl ?_
    refine c_get hκ kX12 (by exact ka) 0 (by decide) (Or.inr ⟨_, q258⟩) rfl (by exact g1) dX5_isTrue_1 ?_
    refine x_lookup (off := 158) (tgt := 162) hκ dX5_isTrue_4 (by decide) (by decide) (by decide) ?_
    refine x_aload_n hκ dX5_isTrue_162 rfl ?_
    refine c_get hκ kX5 (by (try simp (disch := omega) only [oS_k, oS_o, oS_a, oS_f, oS_n, aS_k, aS_o, aS_a, aS_f, aS_n, fS_k, fS_o, fS_a, fS_f, fS_n, nO_k, nO_o, nO_a, nA_k, nA_o, nA_a, nA_f, nA_n, nF_k, nF_o, nF_a, nF_f, nF_n, Nat.reduceEqDiff, ↓reduceIte, and_true, true_and, and_false, false_and, reduceCtorEq, xl_0, xl_1, xl_2, nI_add, nI_1, nm_2, nm_3, nm_4, nm_6, nm_7, nm_8, nm_12, nm_16, na_0, na_2, na_3, na_4, na_5, na_6, na_7, na_8, nm_p, nm_m, nI_clamp]); first | done | assumption | exact h.sc.k (by decide) | exact h.sc.kb (by omega) | exact h.sc.kbt (by omega) | exact h.sc.kbh (by omega) | exact h.sc.kba (by omega) | exact h.sc.kt (by omega) | exact h.sc.ktl (by omega) | exact h.sc.ks (by omega) | rfl) 1 (by decide) (Or.inl q568) rfl (by exact h1) dX5_isTrue_163 ?_
    refine c_get hκ kX16 (by exact l1) 5 (by decide) (Or.inr ⟨_, q757⟩) rfl (by exact (l4 5 (by decide) (by decide))) dX5_isTrue_166 ?_
    refine x_iconst (v := 2) hκ dX5_isTrue_169 (by decide) ?_
    refine x_iand hκ dX5_isTrue_170 ?_
    refine x_if_eq (tgt := 178) hκ dX5_isTrue_171 (by decide) (fun c171 => ?_) (fun c171 => ?_)
    · -- X5_isTrue 171T
      have i171 := c171
      simp (disch := omega) only [i32_lt, i32_le, i32_eq, Int32.reduceToInt, nI_toInt] at i171
      refine x_iconst (v := 0) hκ dX5_isTrue_178 (by decide) ?_
      refine c_retz hκ hr dX5_isTrue_179 (by first | exact Or.inl rfl | exact Or.inr rfl | assumption) ?_
      rw [if_neg (by decide), if_neg (by decide), if_neg (by decide), if_neg (by decide), if_neg (by decide), if_pos rfl]
      exact ⟨Tz0 (fun z => (and_2 _).mpr z c171), rfl⟩
    · -- X5_isTrue 171F
      have i171 := c171
      simp (disch := omega) only [i32_lt, i32_le, i32_eq, Int32.reduceToInt, nI_toInt] at i171
      refine x_iconst (v := 1) hκ dX5_isTrue_174 (by decide) ?_
      refine x_goto (tgt := 179) hκ dX5_isTrue_175 (by decide) ?_
      refine c_retz hκ hr dX5_isTrue_179 (by first | exact Or.inl rfl | exact Or.inr rfl | assumption) ?_
      rw [if_neg (by decide), if_neg (by decide), if_neg (by decide), if_neg (by decide), if_neg (by decide), if_pos rfl]
      exact ⟨Tz1 ((and_2 _).mp c171), rfl⟩
  · skip
    refine x_aload_n hκ dX5_isTrue_0 rfl ?_
    refine c_get hκ kX12 (by exact ka) 0 (by decide) (Or.inr ⟨_, q258⟩) rfl (by exact g1) dX5_isTrue_1 ?_
    refine x_lookup (off := 176) (tgt := 180) hκ dX5_isTrue_4 (by decide) (by decide) (by decide) ?_
    refine x_aload_n hκ dX5_isTrue_180 rfl ?_
    refine c_get hκ kX5 (by (try simp (disch := omega) only [oS_k, oS_o, oS_a, oS_f, oS_n, aS_k, aS_o, aS_a, aS_f, aS_n, fS_k, fS_o, fS_a, fS_f, fS_n, nO_k, nO_o, nO_a, nA_k, nA_o, nA_a, nA_f, nA_n, nF_k, nF_o, nF_a, nF_f, nF_n, Nat.reduceEqDiff, ↓reduceIte, and_true, true_and, and_false, false_and, reduceCtorEq, xl_0, xl_1, xl_2, nI_add, nI_1, nm_2, nm_3, nm_4, nm_6, nm_7, nm_8, nm_12, nm_16, na_0, na_2, na_3, na_4, na_5, na_6, na_7, na_8, nm_p, nm_m, nI_clamp]); first | done | assumption | exact h.sc.k (by decide) | exact h.sc.kb (by omega) | exact h.sc.kbt (by omega) | exact h.sc.kbh (by omega) | exact h.sc.kba (by omega) | exact h.sc.kt (by omega) | exact h.sc.ktl (by omega) | exact h.sc.ks (by omega) | rfl) 0 (by decide) (Or.inl q567) rfl (by (try simp (disch := omega) only [oS_k, oS_o, oS_a, oS_f, oS_n, aS_k, aS_o, aS_a, aS_f, aS_n, fS_k, fS_o, fS_a, fS_f, fS_n, nO_k, nO_o, nO_a, nA_k, nA_o, nA_a, nA_f, nA_n, nF_k, nF_o, nF_a, nF_f, nF_n, Nat.reduceEqDiff, ↓reduceIte, and_true, true_and, and_false, false_and, reduceCtorEq, xl_0, xl_1, xl_2, nI_add, nI_1, nm_2, nm_3, nm_4, nm_6, nm_7, nm_8, nm_12, nm_16, na_0, na_2, na_3, na_4, na_5, na_6, na_7, na_8, nm_p, nm_m, nI_clamp]); first | exact h.sc.o (by decide) rfl | exact h.sc.ob1 (by omega) | exact h.sc.ob2 (by omega) | exact h.sc.ob3 (by omega) | exact h.sc.ot (by omega) | exact h.sc.fb (by omega) | exact h.sc.ft (by omega) (by omega) | exact h.sc.fs (by omega) | exact h.p.1 | exact h.p.2.2.2.2.1 | exact h.p.2.2.2.2.2.1 | exact h.p.2.2.2.2.2.2.1 | exact h.p.2.2.2.2.2.2.2.1 | exact h.p.2.2.2.2.2.2.2.2.1 | exact rfl) dX5_isTrue_181 ?_
    refine x_aload_n hκ dX5_isTrue_184 rfl ?_
    refine c_get hκ kX5 (by (try simp (disch := omega) only [oS_k, oS_o, oS_a, oS_f, oS_n, aS_k, aS_o, aS_a, aS_f, aS_n, fS_k, fS_o, fS_a, fS_f, fS_n, nO_k, nO_o, nO_a, nA_k, nA_o, nA_a, nA_f, nA_n, nF_k, nF_o, nF_a, nF_f, nF_n, Nat.reduceEqDiff, ↓reduceIte, and_true, true_and, and_false, false_and, reduceCtorEq, xl_0, xl_1, xl_2, nI_add, nI_1, nm_2, nm_3, nm_4, nm_6, nm_7, nm_8, nm_12, nm_16, na_0, na_2, na_3, na_4, na_5, na_6, na_7, na_8, nm_p, nm_m, nI_clamp]); first | done | assumption | exact h.sc.k (by decide) | exact h.sc.kb (by omega) | exact h.sc.kbt (by omega) | exact h.sc.kbh (by omega) | exact h.sc.kba (by omega) | exact h.sc.kt (by omega) | exact h.sc.ktl (by omega) | exact h.sc.ks (by omega) | rfl) 1 (by decide) (Or.inl q568) rfl (by exact h1) dX5_isTrue_185 ?_
    refine c_callVN  hκ (mX0_isJunk h hl) (by omega) (by decide) q841 q69 q838 q840 qs22 aX0_isJunk kX0 (by (try simp (disch := omega) only [oS_k, oS_o, oS_a, oS_f, oS_n, aS_k, aS_o, aS_a, aS_f, aS_n, fS_k, fS_o, fS_a, fS_f, fS_n, nO_k, nO_o, nO_a, nA_k, nA_o, nA_a, nA_f, nA_n, nF_k, nF_o, nF_a, nF_f, nF_n, Nat.reduceEqDiff, ↓reduceIte, and_true, true_and, and_false, false_and, reduceCtorEq, xl_0, xl_1, xl_2, nI_add, nI_1, nm_2, nm_3, nm_4, nm_6, nm_7, nm_8, nm_12, nm_16, na_0, na_2, na_3, na_4, na_5, na_6, na_7, na_8, nm_p, nm_m, nI_clamp]); first | done | assumption | exact h.sc.k (by decide) | exact h.sc.kb (by omega) | exact h.sc.kbt (by omega) | exact h.sc.kbh (by omega) | exact h.sc.kba (by omega) | exact h.sc.kt (by omega) | exact h.sc.ktl (by omega) | exact h.sc.ks (by omega) | rfl) rfl (Nat.le_of_ble_eq_true rfl) dX5_isTrue_188 (jIr (fun r188 h188 => ?_))
    refine c_retz hκ hr dX5_isTrue_191 h188.b ?_
    rw [if_neg (by decide), if_neg (by decide), if_neg (by decide), if_neg (by decide), if_neg (by decide), if_neg (by decide), if_pos rfl]
    exact ⟨h188, rfl⟩
  · obtain ⟨I, hI, eI, eI2⟩ := i32_nat hid
    refine x_aload_n hκ dX5_isTrue_0 rfl ?_
    refine c_get hκ kX12 (by exact ka) 0 (by decide) (Or.inr ⟨_, q258⟩) rfl (by exact g1) dX5_isTrue_1 ?_
    refine x_lookup (off := 188) (tgt := 192) hκ dX5_isTrue_4 (by decide) (by decide) (by decide) ?_
    refine x_aload_n hκ dX5_isTrue_192 rfl ?_
    refine c_get hκ kX5 (by (try simp (disch := omega) only [oS_k, oS_o, oS_a, oS_f, oS_n, aS_k, aS_o, aS_a, aS_f, aS_n, fS_k, fS_o, fS_a, fS_f, fS_n, nO_k, nO_o, nO_a, nA_k, nA_o, nA_a, nA_f, nA_n, nF_k, nF_o, nF_a, nF_f, nF_n, Nat.reduceEqDiff, ↓reduceIte, and_true, true_and, and_false, false_and, reduceCtorEq, xl_0, xl_1, xl_2, nI_add, nI_1, nm_2, nm_3, nm_4, nm_6, nm_7, nm_8, nm_12, nm_16, na_0, na_2, na_3, na_4, na_5, na_6, na_7, na_8, nm_p, nm_m, nI_clamp]); first | done | assumption | exact h.sc.k (by decide) | exact h.sc.kb (by omega) | exact h.sc.kbt (by omega) | exact h.sc.kbh (by omega) | exact h.sc.kba (by omega) | exact h.sc.kt (by omega) | exact h.sc.ktl (by omega) | exact h.sc.ks (by omega) | rfl) 2 (by decide) (Or.inl q570) rfl (by exact h2) dX5_isTrue_193 ?_
    refine c_get hκ kX2 (by (try simp (disch := omega) only [oS_k, oS_o, oS_a, oS_f, oS_n, aS_k, aS_o, aS_a, aS_f, aS_n, fS_k, fS_o, fS_a, fS_f, fS_n, nO_k, nO_o, nO_a, nA_k, nA_o, nA_a, nA_f, nA_n, nF_k, nF_o, nF_a, nF_f, nF_n, Nat.reduceEqDiff, ↓reduceIte, and_true, true_and, and_false, false_and, reduceCtorEq, xl_0, xl_1, xl_2, nI_add, nI_1, nm_2, nm_3, nm_4, nm_6, nm_7, nm_8, nm_12, nm_16, na_0, na_2, na_3, na_4, na_5, na_6, na_7, na_8, nm_p, nm_m, nI_clamp]); first | done | assumption | exact h.sc.k (by decide) | exact h.sc.kb (by omega) | exact h.sc.kbt (by omega) | exact h.sc.kbh (by omega) | exact h.sc.kba (by omega) | exact h.sc.kt (by omega) | exact h.sc.ktl (by omega) | exact h.sc.ks (by omega) | rfl) 2 (by decide) (Or.inr ⟨_, q536⟩) rfl (by (try simp (disch := omega) only [oS_k, oS_o, oS_a, oS_f, oS_n, aS_k, aS_o, aS_a, aS_f, aS_n, fS_k, fS_o, fS_a, fS_f, fS_n, nO_k, nO_o, nO_a, nA_k, nA_o, nA_a, nA_f, nA_n, nF_k, nF_o, nF_a, nF_f, nF_n, Nat.reduceEqDiff, ↓reduceIte, and_true, true_and, and_false, false_and, reduceCtorEq, xl_0, xl_1, xl_2, nI_add, nI_1, nm_2, nm_3, nm_4, nm_6, nm_7, nm_8, nm_12, nm_16, na_0, na_2, na_3, na_4, na_5, na_6, na_7, na_8, nm_p, nm_m, nI_clamp]); first | exact h.sc.o (by decide) rfl | exact h.sc.ob1 (by omega) | exact h.sc.ob2 (by omega) | exact h.sc.ob3 (by omega) | exact h.sc.ot (by omega) | exact h.sc.fb (by omega) | exact h.sc.ft (by omega) (by omega) | exact h.sc.fs (by omega) | exact h.p.1 | exact h.p.2.2.2.2.1 | exact h.p.2.2.2.2.2.1 | exact h.p.2.2.2.2.2.2.1 | exact h.p.2.2.2.2.2.2.2.1 | exact h.p.2.2.2.2.2.2.2.2.1 | exact rfl) dX5_isTrue_196 ?_
    refine x_aload_n hκ dX5_isTrue_199 rfl ?_
    refine c_get hκ kX5 (by (try simp (disch := omega) only [oS_k, oS_o, oS_a, oS_f, oS_n, aS_k, aS_o, aS_a, aS_f, aS_n, fS_k, fS_o, fS_a, fS_f, fS_n, nO_k, nO_o, nO_a, nA_k, nA_o, nA_a, nA_f, nA_n, nF_k, nF_o, nF_a, nF_f, nF_n, Nat.reduceEqDiff, ↓reduceIte, and_true, true_and, and_false, false_and, reduceCtorEq, xl_0, xl_1, xl_2, nI_add, nI_1, nm_2, nm_3, nm_4, nm_6, nm_7, nm_8, nm_12, nm_16, na_0, na_2, na_3, na_4, na_5, na_6, na_7, na_8, nm_p, nm_m, nI_clamp]); first | done | assumption | exact h.sc.k (by decide) | exact h.sc.kb (by omega) | exact h.sc.kbt (by omega) | exact h.sc.kbh (by omega) | exact h.sc.kba (by omega) | exact h.sc.kt (by omega) | exact h.sc.ktl (by omega) | exact h.sc.ks (by omega) | rfl) 1 (by decide) (Or.inl q568) rfl (by exact h1) dX5_isTrue_200 ?_
    refine c_get hκ kX16 (by exact l1) 6 (by decide) (Or.inr ⟨_, q760⟩) rfl (by exact (l4 6 (by decide) (by decide))) dX5_isTrue_203 ?_
    rw [show σ.2 (25 + 6) l = nI I from eI]
    refine c_zald hκ (by (try simp (disch := omega) only [oS_k, oS_o, oS_a, oS_f, oS_n, aS_k, aS_o, aS_a, aS_f, aS_n, fS_k, fS_o, fS_a, fS_f, fS_n, nO_k, nO_o, nO_a, nA_k, nA_o, nA_a, nA_f, nA_n, nF_k, nF_o, nF_a, nF_f, nF_n, Nat.reduceEqDiff, ↓reduceIte, and_true, true_and, and_false, false_and, reduceCtorEq, xl_0, xl_1, xl_2, nI_add, nI_1, nm_2, nm_3, nm_4, nm_6, nm_7, nm_8, nm_12, nm_16, na_0, na_2, na_3, na_4, na_5, na_6, na_7, na_8, nm_p, nm_m, nI_clamp]); first | done | assumption | exact h.sc.k (by decide) | exact h.sc.kb (by omega) | exact h.sc.kbt (by omega) | exact h.sc.kbh (by omega) | exact h.sc.kba (by omega) | exact h.sc.kt (by omega) | exact h.sc.ktl (by omega) | exact h.sc.ks (by omega) | rfl) (by (try simp (disch := omega) only [oS_k, oS_o, oS_a, oS_f, oS_n, aS_k, aS_o, aS_a, aS_f, aS_n, fS_k, fS_o, fS_a, fS_f, fS_n, nO_k, nO_o, nO_a, nA_k, nA_o, nA_a, nA_f, nA_n, nF_k, nF_o, nF_a, nF_f, nF_n, Nat.reduceEqDiff, ↓reduceIte, and_true, true_and, and_false, false_and, reduceCtorEq, xl_0, xl_1, xl_2, nI_add, nI_1, nm_2, nm_3, nm_4, nm_6, nm_7, nm_8, nm_12, nm_16, na_0, na_2, na_3, na_4, na_5, na_6, na_7, na_8, nm_p, nm_m, nI_clamp]); first | exact h.sc.n3 | exact h.sc.n4 | exact h.sc.nbt (by omega) | exact h.sc.nbh (by omega) | exact h.sc.nba (by omega) | exact h.sc.n41 | exact h.sc.n42 | exact h.sc.n43 | exact h.sc.n45 | exact h.sc.n46 | exact h.sc.n48 | exact rfl) (by first | ((with_reducible refine vp_in_nI ?_ ?_) <;> omega) | exact i32_in (by omega) (by omega) | exact i32_in' (by simp only [Int32.toInt_add, Int32.toInt_mul, Int32.toInt_sub, Int32.reduceToInt, Int.bmod_add_bmod, Int.bmod_sub_bmod, Int.add_bmod_bmod, Int.sub_bmod_bmod, Int.bmod_mul_bmod, Int.mul_bmod_bmod]; exact i32_bm (by omega) (by omega)) (by omega) (by omega) | exact i32_in (by decide) (by decide)) (by exact ((congrArg (s.2.2.1 (L (35 + b))) (nI_clamp (by omega))).trans (b3 I (by omega)))) dX5_isTrue_206 ?_
    refine c_retz hκ hr dX5_isTrue_207 (hhad _) ?_
    rw [if_neg (by decide), if_neg (by decide), if_neg (by decide), if_neg (by decide), if_neg (by decide), if_neg (by decide), if_neg (by decide), if_pos rfl, eI2]
    refine ⟨?_, rfl⟩
    rcases hhad (10210 * b + I) with z | z
    · rw [z]; exact Tz0 (fun q => q rfl)
    · rw [z]; exact Tz1 (by decide)
  · skip
    refine x_aload_n hκ dX5_isTrue_0 rfl ?_
    refine c_get hκ kX12 (by exact ka) 0 (by decide) (Or.inr ⟨_, q258⟩) rfl (by exact g1) dX5_isTrue_1 ?_
    refine x_lookup (off := 204) (tgt := 208) hκ dX5_isTrue_4 (by decide) (by decide) (by decide) ?_
    refine x_aload_n hκ dX5_isTrue_208 rfl ?_
    refine c_get hκ kX5 (by (try simp (disch := omega) only [oS_k, oS_o, oS_a, oS_f, oS_n, aS_k, aS_o, aS_a, aS_f, aS_n, fS_k, fS_o, fS_a, fS_f, fS_n, nO_k, nO_o, nO_a, nA_k, nA_o, nA_a, nA_f, nA_n, nF_k, nF_o, nF_a, nF_f, nF_n, Nat.reduceEqDiff, ↓reduceIte, and_true, true_and, and_false, false_and, reduceCtorEq, xl_0, xl_1, xl_2, nI_add, nI_1, nm_2, nm_3, nm_4, nm_6, nm_7, nm_8, nm_12, nm_16, na_0, na_2, na_3, na_4, na_5, na_6, na_7, na_8, nm_p, nm_m, nI_clamp]); first | done | assumption | exact h.sc.k (by decide) | exact h.sc.kb (by omega) | exact h.sc.kbt (by omega) | exact h.sc.kbh (by omega) | exact h.sc.kba (by omega) | exact h.sc.kt (by omega) | exact h.sc.ktl (by omega) | exact h.sc.ks (by omega) | rfl) 1 (by decide) (Or.inl q568) rfl (by exact h1) dX5_isTrue_209 ?_
    refine c_get hκ kX16 (by exact l1) 7 (by decide) (Or.inr ⟨_, q763⟩) rfl (by exact (l4 7 (by decide) (by decide))) dX5_isTrue_212 ?_
    refine x_if_lt (tgt := 240) hκ dX5_isTrue_215 (by decide) (fun c215 => ?_) (fun c215 => ?_)
    · -- X5_isTrue 215T
      have i215 := c215
      simp (disch := omega) only [i32_lt, i32_le, i32_eq, Int32.reduceToInt, nI_toInt] at i215
      refine x_iconst (v := 0) hκ dX5_isTrue_240 (by decide) ?_
      refine c_retz hκ hr dX5_isTrue_241 (by first | exact Or.inl rfl | exact Or.inr rfl | assumption) ?_
      rw [if_neg (by decide), if_neg (by decide), if_neg (by decide), if_neg (by decide), if_neg (by decide), if_neg (by decide), if_neg (by decide), if_neg (by decide)]
      exact ⟨Tz0 (fun z => absurd z.1 (Int.not_le.mpr i215)), rfl⟩
    · -- X5_isTrue 215F
      have i215 := c215
      simp (disch := omega) only [i32_lt, i32_le, i32_eq, Int32.reduceToInt, nI_toInt] at i215
      obtain ⟨I, hI, eI, eI2⟩ := i32_nat (x := σ.2 32 l) (m := 10209) ⟨Int.not_lt.mp i215, hrf⟩
      refine x_aload_n hκ dX5_isTrue_218 rfl ?_
      refine c_get hκ kX5 (by (try simp (disch := omega) only [oS_k, oS_o, oS_a, oS_f, oS_n, aS_k, aS_o, aS_a, aS_f, aS_n, fS_k, fS_o, fS_a, fS_f, fS_n, nO_k, nO_o, nO_a, nA_k, nA_o, nA_a, nA_f, nA_n, nF_k, nF_o, nF_a, nF_f, nF_n, Nat.reduceEqDiff, ↓reduceIte, and_true, true_and, and_false, false_and, reduceCtorEq, xl_0, xl_1, xl_2, nI_add, nI_1, nm_2, nm_3, nm_4, nm_6, nm_7, nm_8, nm_12, nm_16, na_0, na_2, na_3, na_4, na_5, na_6, na_7, na_8, nm_p, nm_m, nI_clamp]); first | done | assumption | exact h.sc.k (by decide) | exact h.sc.kb (by omega) | exact h.sc.kbt (by omega) | exact h.sc.kbh (by omega) | exact h.sc.kba (by omega) | exact h.sc.kt (by omega) | exact h.sc.ktl (by omega) | exact h.sc.ks (by omega) | rfl) 2 (by decide) (Or.inl q570) rfl (by exact h2) dX5_isTrue_219 ?_
      refine c_get hκ kX2 (by (try simp (disch := omega) only [oS_k, oS_o, oS_a, oS_f, oS_n, aS_k, aS_o, aS_a, aS_f, aS_n, fS_k, fS_o, fS_a, fS_f, fS_n, nO_k, nO_o, nO_a, nA_k, nA_o, nA_a, nA_f, nA_n, nF_k, nF_o, nF_a, nF_f, nF_n, Nat.reduceEqDiff, ↓reduceIte, and_true, true_and, and_false, false_and, reduceCtorEq, xl_0, xl_1, xl_2, nI_add, nI_1, nm_2, nm_3, nm_4, nm_6, nm_7, nm_8, nm_12, nm_16, na_0, na_2, na_3, na_4, na_5, na_6, na_7, na_8, nm_p, nm_m, nI_clamp]); first | done | assumption | exact h.sc.k (by decide) | exact h.sc.kb (by omega) | exact h.sc.kbt (by omega) | exact h.sc.kbh (by omega) | exact h.sc.kba (by omega) | exact h.sc.kt (by omega) | exact h.sc.ktl (by omega) | exact h.sc.ks (by omega) | rfl) 2 (by decide) (Or.inr ⟨_, q536⟩) rfl (by (try simp (disch := omega) only [oS_k, oS_o, oS_a, oS_f, oS_n, aS_k, aS_o, aS_a, aS_f, aS_n, fS_k, fS_o, fS_a, fS_f, fS_n, nO_k, nO_o, nO_a, nA_k, nA_o, nA_a, nA_f, nA_n, nF_k, nF_o, nF_a, nF_f, nF_n, Nat.reduceEqDiff, ↓reduceIte, and_true, true_and, and_false, false_and, reduceCtorEq, xl_0, xl_1, xl_2, nI_add, nI_1, nm_2, nm_3, nm_4, nm_6, nm_7, nm_8, nm_12, nm_16, na_0, na_2, na_3, na_4, na_5, na_6, na_7, na_8, nm_p, nm_m, nI_clamp]); first | exact h.sc.o (by decide) rfl | exact h.sc.ob1 (by omega) | exact h.sc.ob2 (by omega) | exact h.sc.ob3 (by omega) | exact h.sc.ot (by omega) | exact h.sc.fb (by omega) | exact h.sc.ft (by omega) (by omega) | exact h.sc.fs (by omega) | exact h.p.1 | exact h.p.2.2.2.2.1 | exact h.p.2.2.2.2.2.1 | exact h.p.2.2.2.2.2.2.1 | exact h.p.2.2.2.2.2.2.2.1 | exact h.p.2.2.2.2.2.2.2.2.1 | exact rfl) dX5_isTrue_222 ?_
      refine x_aload_n hκ dX5_isTrue_225 rfl ?_
      refine c_get hκ kX5 (by (try simp (disch := omega) only [oS_k, oS_o, oS_a, oS_f, oS_n, aS_k, aS_o, aS_a, aS_f, aS_n, fS_k, fS_o, fS_a, fS_f, fS_n, nO_k, nO_o, nO_a, nA_k, nA_o, nA_a, nA_f, nA_n, nF_k, nF_o, nF_a, nF_f, nF_n, Nat.reduceEqDiff, ↓reduceIte, and_true, true_and, and_false, false_and, reduceCtorEq, xl_0, xl_1, xl_2, nI_add, nI_1, nm_2, nm_3, nm_4, nm_6, nm_7, nm_8, nm_12, nm_16, na_0, na_2, na_3, na_4, na_5, na_6, na_7, na_8, nm_p, nm_m, nI_clamp]); first | done | assumption | exact h.sc.k (by decide) | exact h.sc.kb (by omega) | exact h.sc.kbt (by omega) | exact h.sc.kbh (by omega) | exact h.sc.kba (by omega) | exact h.sc.kt (by omega) | exact h.sc.ktl (by omega) | exact h.sc.ks (by omega) | rfl) 1 (by decide) (Or.inl q568) rfl (by exact h1) dX5_isTrue_226 ?_
      refine c_get hκ kX16 (by exact l1) 7 (by decide) (Or.inr ⟨_, q763⟩) rfl (by exact (l4 7 (by decide) (by decide))) dX5_isTrue_229 ?_
      rw [show σ.2 (25 + 7) l = nI I from eI]
      refine c_zald hκ (by (try simp (disch := omega) only [oS_k, oS_o, oS_a, oS_f, oS_n, aS_k, aS_o, aS_a, aS_f, aS_n, fS_k, fS_o, fS_a, fS_f, fS_n, nO_k, nO_o, nO_a, nA_k, nA_o, nA_a, nA_f, nA_n, nF_k, nF_o, nF_a, nF_f, nF_n, Nat.reduceEqDiff, ↓reduceIte, and_true, true_and, and_false, false_and, reduceCtorEq, xl_0, xl_1, xl_2, nI_add, nI_1, nm_2, nm_3, nm_4, nm_6, nm_7, nm_8, nm_12, nm_16, na_0, na_2, na_3, na_4, na_5, na_6, na_7, na_8, nm_p, nm_m, nI_clamp]); first | done | assumption | exact h.sc.k (by decide) | exact h.sc.kb (by omega) | exact h.sc.kbt (by omega) | exact h.sc.kbh (by omega) | exact h.sc.kba (by omega) | exact h.sc.kt (by omega) | exact h.sc.ktl (by omega) | exact h.sc.ks (by omega) | rfl) (by (try simp (disch := omega) only [oS_k, oS_o, oS_a, oS_f, oS_n, aS_k, aS_o, aS_a, aS_f, aS_n, fS_k, fS_o, fS_a, fS_f, fS_n, nO_k, nO_o, nO_a, nA_k, nA_o, nA_a, nA_f, nA_n, nF_k, nF_o, nF_a, nF_f, nF_n, Nat.reduceEqDiff, ↓reduceIte, and_true, true_and, and_false, false_and, reduceCtorEq, xl_0, xl_1, xl_2, nI_add, nI_1, nm_2, nm_3, nm_4, nm_6, nm_7, nm_8, nm_12, nm_16, na_0, na_2, na_3, na_4, na_5, na_6, na_7, na_8, nm_p, nm_m, nI_clamp]); first | exact h.sc.n3 | exact h.sc.n4 | exact h.sc.nbt (by omega) | exact h.sc.nbh (by omega) | exact h.sc.nba (by omega) | exact h.sc.n41 | exact h.sc.n42 | exact h.sc.n43 | exact h.sc.n45 | exact h.sc.n46 | exact h.sc.n48 | exact rfl) (by first | ((with_reducible refine vp_in_nI ?_ ?_) <;> omega) | exact i32_in (by omega) (by omega) | exact i32_in' (by simp only [Int32.toInt_add, Int32.toInt_mul, Int32.toInt_sub, Int32.reduceToInt, Int.bmod_add_bmod, Int.bmod_sub_bmod, Int.add_bmod_bmod, Int.sub_bmod_bmod, Int.bmod_mul_bmod, Int.mul_bmod_bmod]; exact i32_bm (by omega) (by omega)) (by omega) (by omega) | exact i32_in (by decide) (by decide)) (by exact ((congrArg (s.2.2.1 (L (35 + b))) (nI_clamp (by omega))).trans (b3 I (by omega)))) dX5_isTrue_232 ?_
      refine x_if_eq (tgt := 240) hκ dX5_isTrue_233 (by decide) (fun c233 => ?_) (fun c233 => ?_)
      · -- X5_isTrue 233T
        have i233 := c233
        simp (disch := omega) only [i32_lt, i32_le, i32_eq, Int32.reduceToInt, nI_toInt] at i233
        refine x_iconst (v := 0) hκ dX5_isTrue_240 (by decide) ?_
        refine c_retz hκ hr dX5_isTrue_241 (by first | exact Or.inl rfl | exact Or.inr rfl | assumption) ?_
        rw [if_neg (by decide), if_neg (by decide), if_neg (by decide), if_neg (by decide), if_neg (by decide), if_neg (by decide), if_neg (by decide), if_neg (by decide), eI2]
        exact ⟨Tz0 (fun z => z.2 c233), rfl⟩
      · -- X5_isTrue 233F
        have i233 := c233
        simp (disch := omega) only [i32_lt, i32_le, i32_eq, Int32.reduceToInt, nI_toInt] at i233
        refine x_iconst (v := 1) hκ dX5_isTrue_236 (by decide) ?_
        refine x_goto (tgt := 241) hκ dX5_isTrue_237 (by decide) ?_
        refine c_retz hκ hr dX5_isTrue_241 (by first | exact Or.inl rfl | exact Or.inr rfl | assumption) ?_
        rw [if_neg (by decide), if_neg (by decide), if_neg (by decide), if_neg (by decide), if_neg (by decide), if_neg (by decide), if_neg (by decide), if_neg (by decide), eI2]
        exact ⟨Tz1 ⟨Int.not_lt.mp i215, c233⟩, rfl⟩
