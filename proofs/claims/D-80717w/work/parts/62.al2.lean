theorem bJ0_init : yJ0_init.cls ≠ "java/lang/invoke/MethodHandle" ∧ yJ0_init.cls ≠ "java/lang/invoke/VarHandle" ∧ (parseMethodDescriptor yJ0_init.desc).map (fun d => d.parameters.length) = some 0 := by decide +kernel
theorem bJ1_init : yJ1_init.cls ≠ "java/lang/invoke/MethodHandle" ∧ yJ1_init.cls ≠ "java/lang/invoke/VarHandle" ∧ (parseMethodDescriptor yJ1_init.desc).map (fun d => d.parameters.length) = some 0 := by decide +kernel
theorem wJ2_66 : GoodIn lw_all (va_wsS RJ2 66 yJ9_copyOf (ws_ yJ9_copyOf cJ9_copyOf 2 (some (FieldType.array (FieldType.object "java/lang/Object"))))) := lw_S q337 q338 q91 q339
theorem aJ9_copyOf : yJ9_copyOf.cls ≠ "java/lang/invoke/MethodHandle" ∧ yJ9_copyOf.cls ≠ "java/lang/invoke/VarHandle" ∧ (parseMethodDescriptor yJ9_copyOf.desc).map (fun d => d.parameters.length) = some 2 := by decide +kernel
theorem wJ2_73 : GoodIn lw_all (va_wsS RJ2 73 yJ7_newLength (ws_ yJ7_newLength cJ7_newLength 4 (some .int))) := lw_S q327 q328 q89 q329
theorem aJ7_newLength : yJ7_newLength.cls ≠ "java/lang/invoke/MethodHandle" ∧ yJ7_newLength.cls ≠ "java/lang/invoke/VarHandle" ∧ (parseMethodDescriptor yJ7_newLength.desc).map (fun d => d.parameters.length) = some 3 := by decide +kernel
theorem wJ9_300 : GoodIn lw_all (va_wsS RJ9 300 yJ9_copyOf_2 (ws_ yJ9_copyOf_2 cJ9_copyOf_2 4 (some (FieldType.array (FieldType.object "java/lang/Object"))))) := lw_S q366 q367 q91 q368
theorem aJ9_copyOf_2 : yJ9_copyOf_2.cls ≠ "java/lang/invoke/MethodHandle" ∧ yJ9_copyOf_2.cls ≠ "java/lang/invoke/VarHandle" ∧ (parseMethodDescriptor yJ9_copyOf_2.desc).map (fun d => d.parameters.length) = some 3 := by decide +kernel
/-! ArrayList: what makes and changes it -/
theorem mJ0_init {E : gE} {s : CSt} {a : Nat} : CMg E s yJ0_init cJ0_init 1 none 1 0 0 [.ref a] (qV (fun s' => s' = s)) := by
  refine CMg.of (by decide) (Nat.le_of_ble_eq_true rfl) ?_
  rintro κ rfl hL hκ hr
  refine x_aload_n hκ dJ0_init_0 rfl ?_
  refine x_objInit hκ q146 q133 q134 (by omega) (Nat.le_of_ble_eq_true rfl) dJ0_init_1 ?_
  refine c_retv hκ hr dJ0_init_4 ?_
  rfl
theorem mJ1_init {E : gE} {s : CSt} {a : Nat} (h : s.1 a = 17) : CMg E s yJ1_init cJ1_init 1 none 2 0 0 [.ref a] (qV (fun s' => s' = oS s a 0 (.int 0))) := by
  refine CMg.of (by decide) (Nat.le_of_ble_eq_true rfl) ?_
  rintro κ rfl hL hκ hr
  refine x_aload_n hκ dJ1_init_0 rfl ?_
  refine c_callI  hκ mJ0_init (by omega) (by decide) q145 q70 q143 q144 rfl bJ0_init rfl (Nat.le_of_ble_eq_true rfl) dJ1_init_1 (fun s1 h1 => ?_)
  subst h1
  refine x_aload_n hκ dJ1_init_4 rfl ?_
  refine x_iconst (v := 0) hκ dJ1_init_5 (by decide) ?_
  refine c_put hκ kJ2 (by exact h) 0 (by decide) (Or.inl q151) rfl rfl (by rfl) (by rfl) dJ1_init_6 ?_
  refine c_retv hκ hr dJ1_init_9 ?_
  rfl
theorem mJ2_init {E : gE} {s : CSt} {a : Nat} (h : s.1 a = 17) : CMg E s yJ2_init cJ2_init 1 none 3 0 0 [.ref a] (qV (fun s' => s' = oS (oS s a 0 (.int 0)) a 1 (.ref (E.2 20)))) := by
  refine CMg.of (by decide) (Nat.le_of_ble_eq_true rfl) ?_
  rintro κ rfl hL hκ hr
  refine x_aload_n hκ dJ2_init_0 rfl ?_
  refine c_callI  hκ (mJ1_init h) (by omega) (by decide) q142 q71 q140 q141 rfl bJ1_init rfl (Nat.le_of_ble_eq_true rfl) dJ2_init_1 (fun s1 h1 => ?_)
  subst h1
  refine x_aload_n hκ dJ2_init_4 rfl ?_
  refine x_getsE hκ q147 rfl dJ2_init_5 ?_
  refine c_put hκ kJ2 (by exact h) 1 (by decide) (Or.inl q149) rfl rfl (by rfl) (by rfl) dJ2_init_8 ?_
  refine c_retv hκ hr dJ2_init_11 ?_
  rfl
theorem mJ9_copyOf_2 {E : gE} {s : CSt} {ar n m : Nat} (h : s.1 ar = 44) (hn : s.2.2.2.2 ar = n) (h2 : n ≤ m) (hm : m ≤ 100000) (he : ∀ i, i < n → ∀ y, s.2.2.2.1 ar i = some y → ObK s y) : CMg E s yJ9_copyOf_2 cJ9_copyOf_2 4 (some (.array (.object "java/lang/Object"))) 2 1 m [.ref ar, .int (nI m), .ref (E.2 21)] (qR (fun r s' => s.1 r = 0 ∧ s' = fB (nF s r 4 m) r (va_cpy (s.2.2.2.1 ar) (fun _ => none) 0 0 n))) := by
  have e1 : (if nI m < nI n then nI m else nI n) = nI n := if_neg (nI_nlt (by omega) (by omega))
  refine CMg.of (by decide) (Nat.le_of_ble_eq_true rfl) ?_
  rintro κ rfl hL hκ hr
  refine x_aload_n hκ dJ9_copyOf_2_0 rfl ?_
  refine x_ldcM hκ q369 dJ9_copyOf_2_1 ?_
  refine x_acmp_ne (tgt := 13) hκ dJ9_copyOf_2_3 (by decide) (fun c3 => ?_) (fun c3 => ?_)
  · -- J9_copyOf_2 3T
    exact absurd rfl c3
  · -- J9_copyOf_2 3F
    refine x_iload_n hκ dJ9_copyOf_2_6 rfl ?_
    refine x_room (Nat.le_refl (0 + 1)) (show 0 + m ≤ m by omega) ?_
    refine c_anew (t := 4) hκ q371 (by decide) rfl (nI_pos (by omega)) (by exact (nI_clamp (by omega))) hm dJ9_copyOf_2_7 (fun q7 hq7 => ?_)
    have hne : ar ≠ q7 := fun z => by rw [z] at h; omega
    refine x_goto (tgt := 24) hκ dJ9_copyOf_2_10 (by decide) ?_
    refine x_astore_n hκ dJ9_copyOf_2_24 (by rw [hL]; decide) rfl ?_
    refine x_aload_n hκ dJ9_copyOf_2_25 rfl ?_
    refine x_iconst (v := 0) hκ dJ9_copyOf_2_26 (by decide) ?_
    refine x_aload_n hκ dJ9_copyOf_2_27 rfl ?_
    refine x_iconst (v := 0) hκ dJ9_copyOf_2_28 (by decide) ?_
    refine x_aload_n hκ dJ9_copyOf_2_29 rfl ?_
    refine c_alenF (t := 4) hκ (by rw [nF_k, if_neg hne]; exact h) (by decide) (by decide) (by exact (show _ = n by rw [nF_n, if_neg hne]; exact hn)) dJ9_copyOf_2_30 ?_
    refine x_iload_n hκ dJ9_copyOf_2_31 rfl ?_
    refine x_mmin hκ q372 (by omega) (Nat.le_of_ble_eq_true rfl) e1 dJ9_copyOf_2_32 ?_
    refine c_copyq (n0 := n) (n1 := m) (s1 := 0) (d1 := 0) (m1 := n) hκ q375 q377 q376 q92 (by rw [nF_k, if_neg hne]; exact h) (by rw [nF_k, if_pos rfl]) (by rw [nF_n, if_neg hne]; exact hn) (by rw [nF_n, if_pos rfl]) (by decide) (by decide) (nI_pos (by omega)) rfl rfl (nI_clamp (by omega)) (by omega) (by omega) (fun i hi y hy => by rw [nF_f, if_neg hne, Nat.zero_add] at hy; have h5 := he i hi y hy; exact h5.of (by rw [nF_k, if_neg (fun z => h5.ne.1 (by rw [z]; exact hq7))])) (by omega) (Nat.le_of_ble_eq_true rfl) dJ9_copyOf_2_35 ?_
    refine x_aload_n hκ dJ9_copyOf_2_38 rfl ?_
    refine c_retr hκ hr (Or.inr ⟨_, rfl⟩) dJ9_copyOf_2_39 ?_
    refine ⟨hq7, ?_⟩
    congr 1
    funext k
    unfold va_cpy
    simp only [nF_f, if_neg hne, ↓reduceIte]
theorem mJ9_copyOf {E : gE} {s : CSt} {ar n m : Nat} (h : s.1 ar = 44) (hn : s.2.2.2.2 ar = n) (h2 : n ≤ m) (hm : m ≤ 100000) (he : ∀ i, i < n → ∀ y, s.2.2.2.1 ar i = some y → ObK s y) : CMg E s yJ9_copyOf cJ9_copyOf 2 (some (.array (.object "java/lang/Object"))) 3 1 m [.ref ar, .int (nI m)] (qR (fun r s' => s.1 r = 0 ∧ s' = fB (nF s r 4 m) r (va_cpy (s.2.2.2.1 ar) (fun _ => none) 0 0 n))) := by
  refine CMg.of (by decide) (Nat.le_of_ble_eq_true rfl) ?_
  rintro κ rfl hL hκ hr
  refine x_aload_n hκ dJ9_copyOf_0 rfl ?_
  refine x_iload_n hκ dJ9_copyOf_1 rfl ?_
  refine x_aload_n hκ dJ9_copyOf_2 rfl ?_
  refine c_getC hκ q340 h (by omega) (Nat.le_of_ble_eq_true rfl) dJ9_copyOf_3 ?_
  refine x_room (Nat.le_refl (0 + 1)) (show 0 + m ≤ m by omega) ?_
  refine c_callS  hκ (mJ9_copyOf_2 h hn h2 hm he) (by omega) (by decide) wJ9_300 aJ9_copyOf_2 rfl (Nat.le_of_ble_eq_true rfl) dJ9_copyOf_6 (jR (fun r6 s6 h6 => ?_))
  refine c_retr hκ hr (Or.inr ⟨_, rfl⟩) dJ9_copyOf_9 ?_
  exact h6
theorem nI_shr1 {n : Nat} (h : n ≤ 40000) : nI n >>> ((1 : Int32) &&& 31) = nI (n / 2) := by
  have k := pk_shrN (n := n) (by omega) ((1 : Int32) &&& 31) 1 (by decide)
  rw [Nat.pow_one] at k
  exact k
theorem nI_sub1 {n : Nat} : nI (n + 1) - nI n = nI 1 := by
  have k := pk_sub (a := n + 1) (b := n) (by omega)
  rw [Nat.add_sub_cancel_left] at k
  exact k
/-- what growing answers -/
def GrP (s : CSt) (a n : Nat) (e : Nat → Nat) (r : Nat) (s' : CSt) : Prop := s.1 r = 0 ∧ s'.1 a = 17 ∧ (∃ m : Int32, s'.2.1 a 0 = .int m) ∧ s'.2.1 a 1 = .ref r ∧ s'.2.1 a 2 = .int (nI n) ∧ s'.1 r = 44 ∧ n < s'.2.2.2.2 r ∧ s'.2.2.2.2 r ≤ 20000 ∧ 2 ≤ s'.2.2.2.2 r ∧ (∀ i, i < n → s'.2.2.2.1 r i = some (e i)) ∧ Kp (fun b => b = a) s s'
/-- the array of a list is made larger: the first time ten places, then by a half -/
theorem mJ2_grow_2 {E : gE} {s : CSt} {a ar n : Nat} {e : Nat → Nat} (h : Lst E s a ar n e) (hn : n ≤ 12000) (hf : (ar = E.2 20 ∧ n = 0) ∨ (ar ≠ E.2 20 ∧ s.1 ar = 44 ∧ s.2.2.2.2 ar = n)) (he : ∀ i, i < n → ObK s (e i)) : CMg E s yJ2_grow_2 cJ2_grow_2 4 (some (.array (.object "java/lang/Object"))) 4 1 (n + n / 2 + 10) [.ref a, .int (nI (n + 1))] (qR (GrP s a n e)) := by
  rcases hf with ⟨rfl, rfl⟩ | ⟨hx, h44, hN⟩
  · have em : (if (10 : Int32) < nI (0 + 1) then nI (0 + 1) else 10) = nI 10 := by decide
    refine CMg.of (by decide) (Nat.le_of_ble_eq_true rfl) ?_
    rintro κ rfl hL hκ hr
    refine c_noE hκ (fun hE => ?_)
    refine x_aload_n hκ dJ2_grow_2_0 rfl ?_
    refine c_get hκ kJ2 (by exact h.1) 1 (by decide) (Or.inl q149) rfl (by exact h.2.2.1) dJ2_grow_2_1 ?_
    refine x_alenE hκ dJ2_grow_2_4 ?_
    refine x_istore_n hκ dJ2_grow_2_5 (by rw [hL]; decide) rfl ?_
    refine x_iload_n hκ dJ2_grow_2_6 rfl ?_
    refine x_if_gt (tgt := 20) hκ dJ2_grow_2_7 (by decide) (fun c7 => ?_) (fun c7 => ?_)
    · -- J2_grow_2 7T
      have i7 := c7
      simp (disch := omega) only [i32_lt, i32_le, i32_eq, Int32.reduceToInt, nI_toInt] at i7
      exact absurd i7 (by decide)
    · -- J2_grow_2 7F
      have i7 := c7
      simp (disch := omega) only [i32_lt, i32_le, i32_eq, Int32.reduceToInt, nI_toInt] at i7
      refine x_aload_n hκ dJ2_grow_2_10 rfl ?_
      refine c_get hκ kJ2 (by exact h.1) 1 (by decide) (Or.inl q149) rfl (by exact h.2.2.1) dJ2_grow_2_11 ?_
      refine x_getsE hκ q147 rfl dJ2_grow_2_14 ?_
      refine x_acmp_eq (tgt := 45) hκ dJ2_grow_2_17 (by decide) (fun c17 => ?_) (fun c17 => ?_)
      · -- J2_grow_2 17T
        refine x_aload_n hκ dJ2_grow_2_45 rfl ?_
        refine x_bipush (v := 10) hκ dJ2_grow_2_46 (by decide) ?_
        refine x_iload_n hκ dJ2_grow_2_48 rfl ?_
        refine x_mmax hκ q378 (by omega) (Nat.le_of_ble_eq_true rfl) em dJ2_grow_2_49 ?_
        refine x_room (Nat.le_refl (0 + 1)) (show 0 + 10 ≤ _ by omega) ?_
        refine c_anew (t := 4) hκ q379 (by decide) rfl (by decide) (by exact (show _ = 10 from rfl)) (by decide) dJ2_grow_2_52 (fun q52 hq52 => ?_)
        have hne : a ≠ q52 := fun z => by have := h.1; rw [z] at this; omega
        refine x_dup_x1 hκ dJ2_grow_2_55 rfl rfl ?_
        refine c_put hκ kJ2 (by rw [nF_k, if_neg hne]; exact h.1) 1 (by decide) (Or.inl q149) rfl rfl (by rfl) (by rfl) dJ2_grow_2_56 ?_
        refine c_retr hκ hr (Or.inr ⟨_, rfl⟩) dJ2_grow_2_59 ?_
        obtain ⟨m, hm⟩ := h.2.1
        refine ⟨hq52, by rw [oS_k, nF_k, if_neg hne]; exact h.1, ⟨m, by rw [oS_o, if_neg (by omega)]; exact hm⟩, by rw [oS_o, if_pos ⟨rfl, rfl⟩], by rw [oS_o, if_neg (by omega)]; exact h.2.2.2.1, by rw [oS_k, nF_k, if_pos rfl], by rw [oS_n, nF_n, if_pos rfl]; decide, by rw [oS_n, nF_n, if_pos rfl]; decide, by rw [oS_n, nF_n, if_pos rfl]; decide, fun i hi => absurd hi (Nat.not_lt_zero i), ?_⟩
        exact (Kp.nF (P := fun b => b = a) hq52).trans (Kp.oS (P := fun b => b = a) rfl) (fun b _ z => z)
      · -- J2_grow_2 17F
        exact absurd rfl c17
  · have h5 : s.2.2.2.2 ar ≤ 20000 ∧ 2 ≤ s.2.2.2.2 ar ∧ ∀ i, i < n → s.2.2.2.1 ar i = some (e i) := by
      rcases h.2.2.2.2 with h6 | h6
      · exact absurd h6.1 hx
      · exact ⟨h6.2.2.1, h6.2.2.2.1, h6.2.2.2.2.1⟩
    refine CMg.of (by decide) (Nat.le_of_ble_eq_true rfl) ?_
    rintro κ rfl hL hκ hr
    have h2n : 2 ≤ n := by omega
    refine x_room (Nat.le_refl 1) (show n + n / 2 ≤ _ by omega) ?_
    refine x_aload_n hκ dJ2_grow_2_0 rfl ?_
    refine c_get hκ kJ2 (by exact h.1) 1 (by decide) (Or.inl q149) rfl (by exact h.2.2.1) dJ2_grow_2_1 ?_
    refine c_alenF (t := 4) hκ (by exact h44) (by decide) (by decide) (by exact hN) dJ2_grow_2_4 ?_
    refine x_istore_n hκ dJ2_grow_2_5 (by rw [hL]; decide) rfl ?_
    refine x_iload_n hκ dJ2_grow_2_6 rfl ?_
    refine x_if_gt (tgt := 20) hκ dJ2_grow_2_7 (by decide) (fun c7 => ?_) (fun c7 => ?_)
    · -- J2_grow_2 7T
      have i7 := c7
      simp (disch := omega) only [i32_lt, i32_le, i32_eq, Int32.reduceToInt, nI_toInt] at i7
      refine x_iload_n hκ dJ2_grow_2_20 rfl ?_
      refine x_iload_n hκ dJ2_grow_2_21 rfl ?_
      refine x_iload_n hκ dJ2_grow_2_22 rfl ?_
      refine x_isub hκ dJ2_grow_2_23 ?_
      rw [nI_sub1]
      refine x_iload_n hκ dJ2_grow_2_24 rfl ?_
      refine x_iconst (v := 1) hκ dJ2_grow_2_25 (by decide) ?_
      refine x_ishr hκ dJ2_grow_2_26 ?_
      rw [nI_shr1 (by omega)]
      refine x_callSi hκ (mJ7_newLength h2n (by omega)) (by omega) (by decide) wJ2_73 aJ7_newLength rfl (Nat.le_of_ble_eq_true rfl) dJ2_grow_2_27 (fun r27 h27 => ?_)
      subst h27
      refine x_istore_n hκ dJ2_grow_2_30 (by rw [hL]; decide) rfl ?_
      refine x_aload_n hκ dJ2_grow_2_31 rfl ?_
      refine x_aload_n hκ dJ2_grow_2_32 rfl ?_
      refine c_get hκ kJ2 (by exact h.1) 1 (by decide) (Or.inl q149) rfl (by exact h.2.2.1) dJ2_grow_2_33 ?_
      refine x_iload_n hκ dJ2_grow_2_36 rfl ?_
      refine x_room (Nat.le_refl (0 + 1)) (show 0 + (n + n / 2) ≤ _ by omega) ?_
      refine c_callS  hκ (mJ9_copyOf h44 hN (by omega) (by omega) (fun i hi y hy => by rw [h5.2.2 i hi] at hy; cases hy; exact he i hi)) (by omega) (by decide) wJ2_66 aJ9_copyOf rfl (Nat.le_of_ble_eq_true rfl) dJ2_grow_2_37 (jR (fun r37 s37 h37 => ?_))
      obtain ⟨hq, rfl⟩ := h37
      have hne : a ≠ r37 := fun z => by have := h.1; rw [z] at this; omega
      refine x_dup_x1 hκ dJ2_grow_2_40 rfl rfl ?_
      refine c_put hκ kJ2 (by rw [fB_k, nF_k, if_neg hne]; exact h.1) 1 (by decide) (Or.inl q149) rfl rfl (by rfl) (by rfl) dJ2_grow_2_41 ?_
      refine c_retr hκ hr (Or.inr ⟨_, rfl⟩) dJ2_grow_2_44 ?_
      obtain ⟨m, hm⟩ := h.2.1
      refine ⟨hq, by rw [oS_k, fB_k, nF_k, if_neg hne]; exact h.1, ⟨m, by rw [oS_o, if_neg (by omega)]; exact hm⟩, by rw [oS_o, if_pos ⟨rfl, rfl⟩], by rw [oS_o, if_neg (by omega)]; exact h.2.2.2.1, by rw [oS_k, fB_k, nF_k, if_pos rfl], by rw [oS_n, fB_n, nF_n, if_pos rfl]; omega, by rw [oS_n, fB_n, nF_n, if_pos rfl]; omega, by rw [oS_n, fB_n, nF_n, if_pos rfl]; omega, fun i hi => ?_, ?_⟩
      · rw [oS_f, fB_f, if_pos rfl]
        unfold va_cpy
        rw [if_pos ⟨by omega, by omega⟩, Nat.sub_zero, Nat.zero_add]
        exact h5.2.2 i hi
      · refine (Kp.nF hq).trans (Q := fun b => b = r37 ∨ b = a) ((Kp.fB (P := fun b => b = r37 ∨ b = a) (Or.inl rfl)).trans (Kp.oS (P := fun b => b = r37 ∨ b = a) (Or.inr rfl)) (fun _ _ z => z)) ?_
        rintro b hb (rfl | rfl)
        · exact absurd hq hb
        · rfl
    · -- J2_grow_2 7F
      have i7 := c7
      simp (disch := omega) only [i32_lt, i32_le, i32_eq, Int32.reduceToInt, nI_toInt] at i7
      exact absurd (nI_lt (show 0 < n by omega) (by omega)) c7
