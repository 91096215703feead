theorem wJ2_118 : GoodIn lw_all (va_wsS RJ2 118 yJ5_checkIndex (ws_ yJ5_checkIndex cJ5_checkIndex 2 (some .int))) := lw_S q291 q292 q87 q293
theorem aJ5_checkIndex : yJ5_checkIndex.cls ≠ "java/lang/invoke/MethodHandle" ∧ yJ5_checkIndex.cls ≠ "java/lang/invoke/VarHandle" ∧ (parseMethodDescriptor yJ5_checkIndex.desc).map (fun d => d.parameters.length) = some 2 := by decide +kernel
theorem wJ2_123 : GoodIn lw_all (wsV RJ2 123 RJ2 yJ2_elementData (ws_ yJ2_elementData cJ2_elementData 2 (some (FieldType.object "java/lang/Object")))) := lw_V q297 q298 q299 q72 q300
theorem aJ2_elementData : yJ2_elementData.cls = RJ2 ∧ yJ2_elementData.cls ≠ "java/lang/invoke/MethodHandle" ∧ yJ2_elementData.cls ≠ "java/lang/invoke/VarHandle" ∧ (parseMethodDescriptor yJ2_elementData.desc).map (fun d => d.parameters.length) = some 1 := by decide +kernel
theorem wJ5_105 : GoodIn lw_all (va_wsS RJ5 105 yJ6_checkIndex (ws_ yJ6_checkIndex cJ6_checkIndex 3 (some .int))) := lw_S q294 q295 q88 q296
theorem aJ6_checkIndex : yJ6_checkIndex.cls ≠ "java/lang/invoke/MethodHandle" ∧ yJ6_checkIndex.cls ≠ "java/lang/invoke/VarHandle" ∧ (parseMethodDescriptor yJ6_checkIndex.desc).map (fun d => d.parameters.length) = some 3 := by decide +kernel
/-! ArrayList, up to reading -/
/-- a list: n elements e, in an array of cap places at ar; or the array that all new lists share, and nothing in it -/
def Lst (E : gE) (s : CSt) (a ar n : Nat) (e : Nat → Nat) : Prop := s.1 a = 17 ∧ (∃ m : Int32, s.2.1 a 0 = .int m) ∧ s.2.1 a 1 = .ref ar ∧ s.2.1 a 2 = .int (nI n) ∧ ((ar = E.2 20 ∧ n = 0) ∨ (s.1 ar = 44 ∧ n ≤ s.2.2.2.2 ar ∧ s.2.2.2.2 ar ≤ 20000 ∧ 2 ≤ s.2.2.2.2 ar ∧ (∀ i, i < n → s.2.2.2.1 ar i = some (e i)) ∧ ar ≠ E.2 20))
theorem Lst.n {E : gE} {s : CSt} {a ar n : Nat} {e : Nat → Nat} (h : Lst E s a ar n e) : n ≤ 20000 := by
  rcases h.2.2.2.2 with h | h <;> omega
theorem mJ7_newLength {E : gE} {n : Nat} (hn : 2 ≤ n) (h2 : n ≤ 40000) : SMi E yJ7_newLength cJ7_newLength 4 .int 2 [.int (nI n), .int (nI 1), .int (nI (n / 2))] (fun r => r = nI (n + n / 2)) := by
  have e1 : (if nI 1 < nI (n / 2) then nI (n / 2) else nI 1) = nI (n / 2) := by
    by_cases c : 1 < n / 2
    · rw [if_pos (nI_lt c (by omega))]
    · rw [if_neg (nI_nlt (by omega) (by decide)), show n / 2 = 1 by omega]
  refine SMi.of (by decide) (Nat.le_of_ble_eq_true rfl) ?_
  rintro κ G rfl hL hκ hr
  refine x_iload_n hκ dJ7_newLength_0 rfl ?_
  refine x_iload_n hκ dJ7_newLength_1 rfl ?_
  refine x_iload_n hκ dJ7_newLength_2 rfl ?_
  refine x_mmax hκ q330 (by omega) (Nat.le_of_ble_eq_true rfl) e1 dJ7_newLength_3 ?_
  refine x_iaddN hκ (by (try simp (disch := omega) only [oS_k, oS_o, oS_a, oS_f, oS_n, aS_k, aS_o, aS_a, aS_f, aS_n, fS_k, fS_o, fS_a, fS_f, fS_n, nO_k, nO_o, nO_a, nA_k, nA_o, nA_a, nA_f, nA_n, nF_k, nF_o, nF_a, nF_f, nF_n, Nat.reduceEqDiff, ↓reduceIte, and_true, true_and, and_false, false_and, reduceCtorEq, xl_0, xl_1, xl_2, nI_add, nI_1, nm_2, nm_3, nm_4, nm_6, nm_7, nm_8, nm_12, nm_16, na_0, na_2, na_3, na_4, na_5, na_6, na_7, na_8, nm_p, nm_m, nI_clamp]); exact rfl) dJ7_newLength_6 ?_
  refine x_istore_n hκ dJ7_newLength_7 (by rw [hL]; decide) rfl ?_
  refine x_iconst (v := 0) hκ dJ7_newLength_8 (by decide) ?_
  refine x_iload_n hκ dJ7_newLength_9 rfl ?_
  refine x_icmp_ge (tgt := 21) hκ dJ7_newLength_10 (by decide) (fun c10 => ?_) (fun c10 => ?_)
  · -- J7_newLength 10T
    have i10 := c10
    simp (disch := omega) only [i32_lt, i32_le, i32_eq, Int32.reduceToInt, nI_toInt] at i10
    exact absurd c10 (nI_nle (by omega) (by omega))
  · -- J7_newLength 10F
    have i10 := c10
    simp (disch := omega) only [i32_lt, i32_le, i32_eq, Int32.reduceToInt, nI_toInt] at i10
    refine x_iload_n hκ dJ7_newLength_13 rfl ?_
    refine x_ldc hκ q333 dJ7_newLength_14 ?_
    refine x_icmp_gt (tgt := 21) hκ dJ7_newLength_16 (by decide) (fun c16 => ?_) (fun c16 => ?_)
    · -- J7_newLength 16T
      have i16 := c16
      simp (disch := omega) only [i32_lt, i32_le, i32_eq, Int32.reduceToInt, nI_toInt] at i16
      exact absurd c16 (show ¬ nI 2147483639 < _ from nI_nlt (by omega) (by decide))
    · -- J7_newLength 16F
      have i16 := c16
      simp (disch := omega) only [i32_lt, i32_le, i32_eq, Int32.reduceToInt, nI_toInt] at i16
      refine x_iload_n hκ dJ7_newLength_19 rfl ?_
      refine s_reti hκ hr dJ7_newLength_20 ?_
      rfl
theorem mJ6_checkIndex {E : gE} {i n : Nat} (h : i < n) (h2 : n ≤ 100000) : SMi E yJ6_checkIndex cJ6_checkIndex 3 .int 1 [.int (nI i), .int (nI n), .null] (fun r => r = nI i) := by
  refine SMi.of (by decide) (Nat.le_of_ble_eq_true rfl) ?_
  rintro κ G rfl hL hκ hr
  refine x_iload_n hκ dJ6_checkIndex_0 rfl ?_
  refine x_if_lt (tgt := 9) hκ dJ6_checkIndex_1 (by decide) (fun c1 => ?_) (fun c1 => ?_)
  · -- J6_checkIndex 1T
    have i1 := c1
    simp (disch := omega) only [i32_lt, i32_le, i32_eq, Int32.reduceToInt, nI_toInt] at i1
    exact absurd c1 (nI_pos (by omega))
  · -- J6_checkIndex 1F
    have i1 := c1
    simp (disch := omega) only [i32_lt, i32_le, i32_eq, Int32.reduceToInt, nI_toInt] at i1
    refine x_iload_n hκ dJ6_checkIndex_4 rfl ?_
    refine x_iload_n hκ dJ6_checkIndex_5 rfl ?_
    refine x_icmp_lt (tgt := 16) hκ dJ6_checkIndex_6 (by decide) (fun c6 => ?_) (fun c6 => ?_)
    · -- J6_checkIndex 6T
      have i6 := c6
      simp (disch := omega) only [i32_lt, i32_le, i32_eq, Int32.reduceToInt, nI_toInt] at i6
      refine x_iload_n hκ dJ6_checkIndex_16 rfl ?_
      refine s_reti hκ hr dJ6_checkIndex_17 ?_
      rfl
    · -- J6_checkIndex 6F
      have i6 := c6
      simp (disch := omega) only [i32_lt, i32_le, i32_eq, Int32.reduceToInt, nI_toInt] at i6
      exact absurd (nI_lt h (by omega)) c6
theorem mJ5_checkIndex {E : gE} {i n : Nat} (h : i < n) (h2 : n ≤ 100000) : SMi E yJ5_checkIndex cJ5_checkIndex 2 .int 2 [.int (nI i), .int (nI n)] (fun r => r = nI i) := by
  refine SMi.of (by decide) (Nat.le_of_ble_eq_true rfl) ?_
  rintro κ G rfl hL hκ hr
  refine x_iload_n hκ dJ5_checkIndex_0 rfl ?_
  refine x_iload_n hκ dJ5_checkIndex_1 rfl ?_
  refine x_null hκ dJ5_checkIndex_2 ?_
  refine x_callSi hκ (mJ6_checkIndex h h2) (by omega) (by decide) wJ5_105 aJ6_checkIndex rfl (Nat.le_of_ble_eq_true rfl) dJ5_checkIndex_3 (fun r3 h3 => ?_)
  refine s_reti hκ hr dJ5_checkIndex_6 ?_
  exact h3
theorem mJ2_size {E : gE} {s : CSt} {a ar n : Nat} {e : Nat → Nat} (h : Lst E s a ar n e) : CMg E s yJ2_size cJ2_size 1 (some .int) 1 0 0 [.ref a] (qI (fun r s' => r = nI n ∧ s' = s)) := by
  refine CMg.of (by decide) (Nat.le_of_ble_eq_true rfl) ?_
  rintro κ rfl hL hκ hr
  refine x_aload_n hκ dJ2_size_0 rfl ?_
  refine c_get hκ kJ2 (by exact h.1) 2 (by decide) (Or.inl q150) rfl (by exact h.2.2.2.1) dJ2_size_1 ?_
  refine c_reti hκ hr dJ2_size_4 ?_
  exact ⟨rfl, rfl⟩
theorem mJ2_isEmpty {E : gE} {s : CSt} {a ar n : Nat} {e : Nat → Nat} (h : Lst E s a ar n e) : CMg E s yJ2_isEmpty cJ2_isEmpty 1 (some .boolean) 1 0 0 [.ref a] (qI (fun r s' => Tz (n = 0) r ∧ s' = s)) := by
  have hn := h.n
  refine CMg.of (by decide) (Nat.le_of_ble_eq_true rfl) ?_
  rintro κ rfl hL hκ hr
  refine x_aload_n hκ dJ2_isEmpty_0 rfl ?_
  refine c_get hκ kJ2 (by exact h.1) 2 (by decide) (Or.inl q150) rfl (by exact h.2.2.2.1) dJ2_isEmpty_1 ?_
  refine x_if_ne (tgt := 11) hκ dJ2_isEmpty_4 (by decide) (fun c4 => ?_) (fun c4 => ?_)
  · -- J2_isEmpty 4T
    have i4 := c4
    simp (disch := omega) only [i32_lt, i32_le, i32_eq, Int32.reduceToInt, nI_toInt] at i4
    refine x_iconst (v := 0) hκ dJ2_isEmpty_11 (by decide) ?_
    refine c_retz hκ hr dJ2_isEmpty_12 (by first | exact Or.inl rfl | exact Or.inr rfl | assumption) ?_
    refine ⟨Tz0 ?_, rfl⟩
    rintro rfl
    exact c4 rfl
  · -- J2_isEmpty 4F
    have i4 := c4
    simp (disch := omega) only [i32_lt, i32_le, i32_eq, Int32.reduceToInt, nI_toInt] at i4
    refine x_iconst (v := 1) hκ dJ2_isEmpty_7 (by decide) ?_
    refine x_goto (tgt := 12) hκ dJ2_isEmpty_8 (by decide) ?_
    refine c_retz hκ hr dJ2_isEmpty_12 (by first | exact Or.inl rfl | exact Or.inr rfl | assumption) ?_
    refine ⟨Tz1 ?_, rfl⟩
    omega
theorem mJ2_elementData {E : gE} {s : CSt} {a ar n i : Nat} {e : Nat → Nat} (h : Lst E s a ar n e) (hi : i < n) : CMg E s yJ2_elementData cJ2_elementData 2 (some (.object "java/lang/Object")) 1 0 0 [.ref a, .int (nI i)] (qR (fun r s' => r = e i ∧ s' = s)) := by
  have hn := h.n
  rcases h.2.2.2.2 with h5 | h5
  · omega
  refine CMg.of (by decide) (Nat.le_of_ble_eq_true rfl) ?_
  rintro κ rfl hL hκ hr
  refine x_aload_n hκ dJ2_elementData_0 rfl ?_
  refine c_get hκ kJ2 (by exact h.1) 1 (by decide) (Or.inl q149) rfl (by exact h.2.2.1) dJ2_elementData_1 ?_
  refine x_iload_n hκ dJ2_elementData_4 rfl ?_
  refine c_aald (t := 4) hκ (by exact h5.1) (by decide) (by decide) (by exact rfl) (by first | ((with_reducible refine vp_in_nI ?_ ?_) <;> omega) | exact i32_in (by omega) (by omega) | exact i32_in' (by simp only [Int32.toInt_add, Int32.toInt_mul, Int32.toInt_sub, Int32.reduceToInt, Int.bmod_add_bmod, Int.bmod_sub_bmod, Int.add_bmod_bmod, Int.sub_bmod_bmod, Int.bmod_mul_bmod, Int.mul_bmod_bmod]; exact i32_bm (by omega) (by omega)) (by omega) (by omega) | exact i32_in (by decide) (by decide)) (by rw [nI_clamp (by omega)]; exact h5.2.2.2.2.1 i hi) dJ2_elementData_5 ?_
  refine c_retr hκ hr (Or.inl ⟨_, rfl⟩) dJ2_elementData_6 ?_
  exact ⟨rfl, rfl⟩
theorem mJ2_get {E : gE} {s : CSt} {a ar n i : Nat} {e : Nat → Nat} (h : Lst E s a ar n e) (hi : i < n) : CMg E s yJ2_get cJ2_get 2 (some (.object "java/lang/Object")) 3 0 0 [.ref a, .int (nI i)] (qR (fun r s' => r = e i ∧ s' = s)) := by
  have hn := h.n
  refine CMg.of (by decide) (Nat.le_of_ble_eq_true rfl) ?_
  rintro κ rfl hL hκ hr
  refine x_iload_n hκ dJ2_get_0 rfl ?_
  refine x_aload_n hκ dJ2_get_1 rfl ?_
  refine c_get hκ kJ2 (by exact h.1) 2 (by decide) (Or.inl q150) rfl (by exact h.2.2.2.1) dJ2_get_2 ?_
  refine x_callSi hκ (mJ5_checkIndex hi (by omega)) (by omega) (by decide) wJ2_118 aJ5_checkIndex rfl (Nat.le_of_ble_eq_true rfl) dJ2_get_5 (fun r5 h5 => ?_)
  refine x_pop hκ dJ2_get_8 rfl ?_
  refine x_aload_n hκ dJ2_get_9 rfl ?_
  refine x_iload_n hκ dJ2_get_10 rfl ?_
  refine c_callV  hκ (mJ2_elementData h hi) (by omega) (by decide) wJ2_123 aJ2_elementData kJ2 (by exact h.1) rfl (Nat.le_of_ble_eq_true rfl) dJ2_get_11 (jRr (fun r11 h11 => ?_))
  subst h11
  refine c_retr hκ hr (Or.inl ⟨_, rfl⟩) dJ2_get_14 ?_
  exact ⟨rfl, rfl⟩
