theorem wJ2_69 : GoodIn lw_all (wsV RJ2 69 RJ2 yJ2_grow_2 (ws_ yJ2_grow_2 cJ2_grow_2 4 (some (FieldType.array (FieldType.object "java/lang/Object"))))) := lw_V q323 q325 qs13 q72 q326
theorem aJ2_grow_2 : yJ2_grow_2.cls = RJ2 ∧ yJ2_grow_2.cls ≠ "java/lang/invoke/MethodHandle" ∧ yJ2_grow_2.cls ≠ "java/lang/invoke/VarHandle" ∧ (parseMethodDescriptor yJ2_grow_2.desc).map (fun d => d.parameters.length) = some 1 := by decide +kernel
theorem wJ2_129 : GoodIn lw_all (wsV RJ2 129 RJ2 yJ2_grow (ws_ yJ2_grow cJ2_grow 1 (some (FieldType.array (FieldType.object "java/lang/Object"))))) := lw_V q319 q321 qs12 q72 q322
theorem aJ2_grow : yJ2_grow.cls = RJ2 ∧ yJ2_grow.cls ≠ "java/lang/invoke/MethodHandle" ∧ yJ2_grow.cls ≠ "java/lang/invoke/VarHandle" ∧ (parseMethodDescriptor yJ2_grow.desc).map (fun d => d.parameters.length) = some 0 := by decide +kernel
theorem wJ2_131 : GoodIn lw_all (wsV RJ2 131 RJ2 yJ2_add_2 (ws_ yJ2_add_2 cJ2_add_2 4 none)) := lw_V q315 q317 qs11 q72 q318
theorem aJ2_add_2 : yJ2_add_2.cls = RJ2 ∧ yJ2_add_2.cls ≠ "java/lang/invoke/MethodHandle" ∧ yJ2_add_2.cls ≠ "java/lang/invoke/VarHandle" ∧ (parseMethodDescriptor yJ2_add_2.desc).map (fun d => d.parameters.length) = some 3 := by decide +kernel
theorem wJ2_144 : GoodIn lw_all (wsV RJ2 144 RJ2 yJ2_fastRemove (ws_ yJ2_fastRemove cJ2_fastRemove 4 none)) := lw_V q963 q965 qs27 q72 q966
theorem aJ2_fastRemove : yJ2_fastRemove.cls = RJ2 ∧ yJ2_fastRemove.cls ≠ "java/lang/invoke/MethodHandle" ∧ yJ2_fastRemove.cls ≠ "java/lang/invoke/VarHandle" ∧ (parseMethodDescriptor yJ2_fastRemove.desc).map (fun d => d.parameters.length) = some 2 := by decide +kernel
/-! ArrayList: add, remove, clear -/
theorem mJ2_grow {E : gE} {s : CSt} {a ar n : Nat} {e : Nat → Nat} (h : Lst E s a ar n e) (hn : n ≤ 12000) (hf : (ar = E.2 20 ∧ n = 0) ∨ (ar ≠ E.2 20 ∧ s.1 ar = 44 ∧ s.2.2.2.2 ar = n)) (he : ∀ i, i < n → ObK s (e i)) : CMg E s yJ2_grow cJ2_grow 1 (some (.array (.object "java/lang/Object"))) 5 1 (n + n / 2 + 10) [.ref a] (qR (GrP s a n e)) := by
  refine CMg.of (by decide) (Nat.le_of_ble_eq_true rfl) ?_
  rintro κ rfl hL hκ hr
  refine x_aload_n hκ dJ2_grow_0 rfl ?_
  refine x_aload_n hκ dJ2_grow_1 rfl ?_
  refine c_get hκ kJ2 (by exact h.1) 2 (by decide) (Or.inl q150) rfl (by exact h.2.2.2.1) dJ2_grow_2 ?_
  refine x_iconst (v := 1) hκ dJ2_grow_5 (by decide) ?_
  refine x_iaddN hκ (by (try simp (disch := omega) only [oS_k, oS_o, oS_a, oS_f, oS_n, aS_k, aS_o, aS_a, aS_f, aS_n, fS_k, fS_o, fS_a, fS_f, fS_n, nO_k, nO_o, nO_a, nA_k, nA_o, nA_a, nA_f, nA_n, nF_k, nF_o, nF_a, nF_f, nF_n, Nat.reduceEqDiff, ↓reduceIte, and_true, true_and, and_false, false_and, reduceCtorEq, xl_0, xl_1, xl_2, nI_add, nI_1, nm_2, nm_3, nm_4, nm_6, nm_7, nm_8, nm_12, nm_16, na_0, na_2, na_3, na_4, na_5, na_6, na_7, na_8, nm_p, nm_m, nI_clamp]); exact rfl) dJ2_grow_6 ?_
  refine x_room (Nat.le_refl (0 + 1)) (show 0 + (n + n / 2 + 10) ≤ _ by omega) ?_
  refine c_callV  hκ (mJ2_grow_2 h hn hf he) (by omega) (by decide) wJ2_69 aJ2_grow_2 kJ2 (by exact h.1) rfl (Nat.le_of_ble_eq_true rfl) dJ2_grow_7 (jR (fun r7 s7 h7 => ?_))
  refine c_retr hκ hr (Or.inr ⟨_, rfl⟩) dJ2_grow_10 ?_
  exact h7
/-- the list a of s has one more at s' -/
def AddP (E : gE) (s : CSt) (a ar n : Nat) (e : Nat → Nat) (q : Nat) (s' : CSt) : Prop := ∃ ar', Lst E s' a ar' (n + 1) (va_up e n q) ∧ ar' ≠ E.2 20 ∧ (ar' = ar ∨ s.1 ar' = 0) ∧ Kp (fun b => b = a ∨ b = ar) s s'
theorem ObK.kp {P : Nat → Prop} {s s' : CSt} {q : Nat} (h : ObK s q) (hk : Kp P s s') (hp : ¬ P q) : ObK s' q := h.of (hk q h.ne.1 hp).1
theorem GrP.add {E : gE} {s s1 : CSt} {a ar n r q : Nat} {e : Nat → Nat} (h : GrP s a n e r s1) (hE : s1.1 (E.2 20) = 0) (hn : n ≤ 12000) : AddP E s a ar n e q (oS (fS s1 r n (some q)) a 2 (.int (nI (n + 1)))) := by
  obtain ⟨h1, h2, h3, h4, h5, h6, h7, h8, h9, h10, h11⟩ := h
  have hr : r ≠ E.2 20 := fun z => by rw [z] at h6; omega
  refine ⟨r, ⟨h2, ?_, ?_, ?_, Or.inr ⟨h6, ?_, ?_, ?_, fun i hi => ?_, hr⟩⟩, hr, Or.inr h1, ?_⟩
  · obtain ⟨m, hm⟩ := h3
    exact ⟨m, by rw [oS_o, if_neg (by omega)]; exact hm⟩
  · rw [oS_o, if_neg (by omega)]; exact h4
  · rw [oS_o, if_pos ⟨rfl, rfl⟩]
  · show n + 1 ≤ s1.2.2.2.2 r
    omega
  · exact h8
  · exact h9
  · rw [oS_f, fS_f]
    unfold va_up
    by_cases hi2 : i = n
    · rw [if_pos ⟨rfl, hi2⟩, if_pos hi2]
    · rw [if_neg (fun z => hi2 z.2), if_neg hi2]
      exact h10 i (by omega)
  · refine (h11.mono (Q := fun b => b = a ∨ b = ar) (fun b _ z => Or.inl z)).trans (Q := fun b => b = r ∨ b = a) ((Kp.fS (P := fun b => b = r ∨ b = a) (Or.inl rfl)).trans (Kp.oS (P := fun b => b = r ∨ b = a) (Or.inr rfl)) (fun _ _ z => z)) ?_
    rintro b hb (rfl | rfl)
    · exact absurd h1 hb
    · exact Or.inl rfl
theorem mJ2_add_2 {E : gE} {s : CSt} {a ar n q : Nat} {e : Nat → Nat} (h : Lst E s a ar n e) (hn : n ≤ 12000) (he : ∀ i, i < n → ObK s (e i)) (hq : ObK s q) : CMg E s yJ2_add_2 cJ2_add_2 4 none 6 1 (n + n / 2 + 10) [.ref a, .ref q, .ref ar, .int (nI n)] (qV (AddP E s a ar n e q)) := by
  refine CMg.of (by decide) (Nat.le_of_ble_eq_true rfl) ?_
  rintro κ rfl hL hκ hr
  refine c_noE hκ (fun hE => ?_)
  have hgo : (ar = (kE κ).2 20 ∧ n = 0) ∨ (ar ≠ (kE κ).2 20 ∧ s.1 ar = 44 ∧ s.2.2.2.2 ar = n) → X κ (sG (kE κ) s) 1 (n + n / 2 + 10) 6 [some (.ref a), some (.ref q), some (.ref ar), some (.int (nI n))] [] := by
    intro hf
    refine x_aload_n hκ dJ2_add_2_6 rfl ?_
    refine x_room (Nat.le_refl (0 + 1)) (show 0 + (n + n / 2 + 10) ≤ _ by omega) ?_
    refine c_callV  hκ (mJ2_grow h hn hf he) (by omega) (by decide) wJ2_129 aJ2_grow kJ2 (by exact h.1) rfl (Nat.le_of_ble_eq_true rfl) dJ2_add_2_7 (jR (fun r7 s7 h7 => ?_))
    refine c_noE hκ (fun hE1 => ?_)
    obtain ⟨g1, g2, g3, g4, g5, g6, g7, g8, g9, g10, g11⟩ := id h7
    refine x_astore_n hκ dJ2_add_2_10 (by rw [hL]; decide) rfl ?_
    refine x_aload_n hκ dJ2_add_2_11 rfl ?_
    refine x_iload_n hκ dJ2_add_2_12 rfl ?_
    refine x_aload_n hκ dJ2_add_2_13 rfl ?_
    refine c_aastK hκ (by exact g6) (by exact (if z : q = a then hq.of (by rw [z, g2]; exact h.1.symm) else hq.kp g11 z)) (by exact (show _ = s7.2.2.2.2 r7 from rfl)) (vp_in_nI g7 (by omega)) (by (try simp (disch := omega) only [oS_k, oS_o, oS_a, oS_f, oS_n, aS_k, aS_o, aS_a, aS_f, aS_n, fS_k, fS_o, fS_a, fS_f, fS_n, nO_k, nO_o, nO_a, nA_k, nA_o, nA_a, nA_f, nA_n, nF_k, nF_o, nF_a, nF_f, nF_n, Nat.reduceEqDiff, ↓reduceIte, and_true, true_and, and_false, false_and, reduceCtorEq, xl_0, xl_1, xl_2, nI_add, nI_1, nm_2, nm_3, nm_4, nm_6, nm_7, nm_8, nm_12, nm_16, na_0, na_2, na_3, na_4, na_5, na_6, na_7, na_8, nm_p, nm_m, nI_clamp]); exact rfl) dJ2_add_2_14 ?_
    refine x_aload_n hκ dJ2_add_2_15 rfl ?_
    refine x_iload_n hκ dJ2_add_2_16 rfl ?_
    refine x_iconst (v := 1) hκ dJ2_add_2_17 (by decide) ?_
    refine x_iaddN hκ (by (try simp (disch := omega) only [oS_k, oS_o, oS_a, oS_f, oS_n, aS_k, aS_o, aS_a, aS_f, aS_n, fS_k, fS_o, fS_a, fS_f, fS_n, nO_k, nO_o, nO_a, nA_k, nA_o, nA_a, nA_f, nA_n, nF_k, nF_o, nF_a, nF_f, nF_n, Nat.reduceEqDiff, ↓reduceIte, and_true, true_and, and_false, false_and, reduceCtorEq, xl_0, xl_1, xl_2, nI_add, nI_1, nm_2, nm_3, nm_4, nm_6, nm_7, nm_8, nm_12, nm_16, na_0, na_2, na_3, na_4, na_5, na_6, na_7, na_8, nm_p, nm_m, nI_clamp]); exact rfl) dJ2_add_2_18 ?_
    refine c_put hκ kJ2 (by exact g2) 2 (by decide) (Or.inl q150) rfl rfl (by rfl) (by rfl) dJ2_add_2_19 ?_
    refine c_retv hκ hr dJ2_add_2_22 ?_
    exact h7.add hE1 hn
  rcases h.2.2.2.2 with h6 | h6
  · obtain ⟨rfl, rfl⟩ := h6
    refine x_iload_n hκ dJ2_add_2_0 rfl ?_
    refine x_aload_n hκ dJ2_add_2_1 rfl ?_
    refine x_alenE hκ dJ2_add_2_2 ?_
    refine x_icmp_ne (tgt := 11) hκ dJ2_add_2_3 (by decide) (fun c3 => ?_) (fun c3 => ?_)
    · -- J2_add_2 3T
      have i3 := c3
      simp (disch := omega) only [i32_lt, i32_le, i32_eq, Int32.reduceToInt, nI_toInt] at i3
      exact absurd rfl c3
    · -- J2_add_2 3F
      have i3 := c3
      simp (disch := omega) only [i32_lt, i32_le, i32_eq, Int32.reduceToInt, nI_toInt] at i3
      exact hgo (Or.inl ⟨rfl, rfl⟩)
  · have hx : ar ≠ (kE κ).2 20 := fun z => by have := h6.1; rw [z] at this; omega
    refine x_iload_n hκ dJ2_add_2_0 rfl ?_
    refine x_aload_n hκ dJ2_add_2_1 rfl ?_
    refine c_alenF (t := 4) hκ (by exact h6.1) (by decide) (by decide) (by exact (show _ = s.2.2.2.2 ar from rfl)) dJ2_add_2_2 ?_
    refine x_icmp_ne (tgt := 11) hκ dJ2_add_2_3 (by decide) (fun c3 => ?_) (fun c3 => ?_)
    · -- J2_add_2 3T
      have i3 := c3
      simp (disch := omega) only [i32_lt, i32_le, i32_eq, Int32.reduceToInt, nI_toInt] at i3
      have hlt : n < s.2.2.2.2 ar := by omega
      refine x_aload_n hκ dJ2_add_2_11 rfl ?_
      refine x_iload_n hκ dJ2_add_2_12 rfl ?_
      refine x_aload_n hκ dJ2_add_2_13 rfl ?_
      refine c_aastK hκ (by exact h6.1) (by exact hq) (by exact (show _ = s.2.2.2.2 ar from rfl)) (vp_in_nI hlt (by omega)) (by (try simp (disch := omega) only [oS_k, oS_o, oS_a, oS_f, oS_n, aS_k, aS_o, aS_a, aS_f, aS_n, fS_k, fS_o, fS_a, fS_f, fS_n, nO_k, nO_o, nO_a, nA_k, nA_o, nA_a, nA_f, nA_n, nF_k, nF_o, nF_a, nF_f, nF_n, Nat.reduceEqDiff, ↓reduceIte, and_true, true_and, and_false, false_and, reduceCtorEq, xl_0, xl_1, xl_2, nI_add, nI_1, nm_2, nm_3, nm_4, nm_6, nm_7, nm_8, nm_12, nm_16, na_0, na_2, na_3, na_4, na_5, na_6, na_7, na_8, nm_p, nm_m, nI_clamp]); exact rfl) dJ2_add_2_14 ?_
      refine x_aload_n hκ dJ2_add_2_15 rfl ?_
      refine x_iload_n hκ dJ2_add_2_16 rfl ?_
      refine x_iconst (v := 1) hκ dJ2_add_2_17 (by decide) ?_
      refine x_iaddN hκ (by (try simp (disch := omega) only [oS_k, oS_o, oS_a, oS_f, oS_n, aS_k, aS_o, aS_a, aS_f, aS_n, fS_k, fS_o, fS_a, fS_f, fS_n, nO_k, nO_o, nO_a, nA_k, nA_o, nA_a, nA_f, nA_n, nF_k, nF_o, nF_a, nF_f, nF_n, Nat.reduceEqDiff, ↓reduceIte, and_true, true_and, and_false, false_and, reduceCtorEq, xl_0, xl_1, xl_2, nI_add, nI_1, nm_2, nm_3, nm_4, nm_6, nm_7, nm_8, nm_12, nm_16, na_0, na_2, na_3, na_4, na_5, na_6, na_7, na_8, nm_p, nm_m, nI_clamp]); exact rfl) dJ2_add_2_18 ?_
      refine c_put hκ kJ2 (by exact h.1) 2 (by decide) (Or.inl q150) rfl rfl (by rfl) (by rfl) dJ2_add_2_19 ?_
      refine c_retv hκ hr dJ2_add_2_22 ?_
      refine ⟨ar, ⟨h.1, ?_, ?_, ?_, Or.inr ⟨h6.1, hlt, h6.2.2.1, h6.2.2.2.1, fun i hi => ?_, hx⟩⟩, hx, Or.inl rfl, ?_⟩
      · obtain ⟨m, hm⟩ := h.2.1
        exact ⟨m, by rw [oS_o, if_neg (by omega)]; exact hm⟩
      · rw [oS_o, if_neg (by omega)]; exact h.2.2.1
      · rw [oS_o, if_pos ⟨rfl, rfl⟩]
      · rw [oS_f, fS_f]
        unfold va_up
        by_cases hi2 : i = n
        · rw [if_pos ⟨rfl, hi2⟩, if_pos hi2]
        · rw [if_neg (fun z => hi2 z.2), if_neg hi2]
          exact h6.2.2.2.2.1 i (by omega)
      · exact (Kp.fS (P := fun b => b = a ∨ b = ar) (Or.inr rfl)).trans (Kp.oS (P := fun b => b = a ∨ b = ar) (Or.inl rfl)) (fun _ _ z => z)
    · -- J2_add_2 3F
      have i3 := c3
      simp (disch := omega) only [i32_lt, i32_le, i32_eq, Int32.reduceToInt, nI_toInt] at i3
      exact hgo (Or.inr ⟨hx, h6.1, ((nI_eq (by omega) (by omega)).mp c3).symm⟩)
theorem mJ2_add {E : gE} {s : CSt} {a ar n q : Nat} {e : Nat → Nat} (h : Lst E s a ar n e) (hn : n ≤ 12000) (he : ∀ i, i < n → ObK s (e i)) (hq : ObK s q) : CMg E s yJ2_add cJ2_add 2 (some .boolean) 7 1 (n + n / 2 + 10) [.ref a, .ref q] (qI (fun r s' => r = 1 ∧ AddP E s a ar n e q s')) := by
  obtain ⟨m, hm⟩ := h.2.1
  have h1 : Lst E (oS s a 0 (.int (m + 1))) a ar n e := ⟨h.1, ⟨m + 1, by rw [oS_o, if_pos ⟨rfl, rfl⟩]⟩, by rw [oS_o, if_neg (by omega)]; exact h.2.2.1, by rw [oS_o, if_neg (by omega)]; exact h.2.2.2.1, h.2.2.2.2⟩
  refine CMg.of (by decide) (Nat.le_of_ble_eq_true rfl) ?_
  rintro κ rfl hL hκ hr
  refine x_aload_n hκ dJ2_add_0 rfl ?_
  refine x_dup hκ dJ2_add_1 rfl ?_
  refine c_getS hκ kJ2 (by exact h.1) 0 (by decide) q152 q153 (by exact hm) dJ2_add_2 ?_
  refine x_iconst (v := 1) hκ dJ2_add_5 (by decide) ?_
  refine x_iadd hκ dJ2_add_6 ?_
  refine c_putS hκ kJ2 (by exact h.1) 0 (by decide) q152 q153 rfl (by rfl) (by rfl) dJ2_add_7 ?_
  refine x_aload_n hκ dJ2_add_10 rfl ?_
  refine x_aload_n hκ dJ2_add_11 rfl ?_
  refine x_aload_n hκ dJ2_add_12 rfl ?_
  refine c_get hκ kJ2 (by exact h1.1) 1 (by decide) (Or.inl q149) rfl (by exact h1.2.2.1) dJ2_add_13 ?_
  refine x_aload_n hκ dJ2_add_16 rfl ?_
  refine c_get hκ kJ2 (by exact h1.1) 2 (by decide) (Or.inl q150) rfl (by exact h1.2.2.2.1) dJ2_add_17 ?_
  refine x_room (Nat.le_refl (0 + 1)) (show 0 + (n + n / 2 + 10) ≤ _ by omega) ?_
  refine c_callV  hκ (mJ2_add_2 h1 hn (fun i hi => he i hi) hq) (by omega) (by decide) wJ2_131 aJ2_add_2 kJ2 (by exact h1.1) rfl (Nat.le_of_ble_eq_true rfl) dJ2_add_20 (jV (fun s20 h20 => ?_))
  obtain ⟨ar', g1, g2, g3, g4⟩ := h20
  refine x_iconst (v := 1) hκ dJ2_add_23 (by decide) ?_
  refine c_retz hκ hr dJ2_add_24 (by first | exact Or.inl rfl | exact Or.inr rfl | assumption) ?_
  exact ⟨rfl, ar', g1, g2, g3, (Kp.oS (P := fun b => b = a ∨ b = ar) (Or.inl rfl)).trans g4 (fun _ _ z => z)⟩
/-- one less: what stood behind i moves up -/
def rmv (e : Nat → Nat) (i : Nat) : Nat → Nat := fun j => if j < i then e j else e (j + 1)
theorem mJ2_fastRemove {E : gE} {s : CSt} {a ar n i : Nat} {e : Nat → Nat} (h : Lst E s a ar n e) (hi : i < n) (he : ∀ i, i < n → ObK s (e i)) : CMg E s yJ2_fastRemove cJ2_fastRemove 4 none 2 0 0 [.ref a, .ref ar, .int (nI i)] (qV (fun s' => Lst E s' a ar (n - 1) (rmv e i) ∧ Kp (fun b => b = a ∨ b = ar) s s')) := by
  obtain ⟨m, hm⟩ := h.2.1
  have hn := h.n
  rcases h.2.2.2.2 with h6 | ⟨h61, h62, h63, h64, h65, h66⟩
  · omega
  have hne : a ≠ ar := fun z => by have := h.1; rw [z] at this; omega
  refine CMg.of (by decide) (Nat.le_of_ble_eq_true rfl) ?_
  rintro κ rfl hL hκ hr
  refine x_aload_n hκ dJ2_fastRemove_0 rfl ?_
  refine x_dup hκ dJ2_fastRemove_1 rfl ?_
  refine c_getS hκ kJ2 (by exact h.1) 0 (by decide) q152 q153 (by exact hm) dJ2_fastRemove_2 ?_
  refine x_iconst (v := 1) hκ dJ2_fastRemove_5 (by decide) ?_
  refine x_iadd hκ dJ2_fastRemove_6 ?_
  refine c_putS hκ kJ2 (by exact h.1) 0 (by decide) q152 q153 rfl (by rfl) (by rfl) dJ2_fastRemove_7 ?_
  refine x_aload_n hκ dJ2_fastRemove_10 rfl ?_
  refine c_get hκ kJ2 (by exact h.1) 2 (by decide) (Or.inl q150) rfl (by exact ((oS_o.trans (if_neg (by omega))).trans h.2.2.2.1)) dJ2_fastRemove_11 ?_
  refine x_iconst (v := 1) hκ dJ2_fastRemove_14 (by decide) ?_
  refine x_isubN hκ (by (try simp (disch := omega) only [oS_k, oS_o, oS_a, oS_f, oS_n, aS_k, aS_o, aS_a, aS_f, aS_n, fS_k, fS_o, fS_a, fS_f, fS_n, nO_k, nO_o, nO_a, nA_k, nA_o, nA_a, nA_f, nA_n, nF_k, nF_o, nF_a, nF_f, nF_n, Nat.reduceEqDiff, ↓reduceIte, and_true, true_and, and_false, false_and, reduceCtorEq, xl_0, xl_1, xl_2, nI_add, nI_1, nm_2, nm_3, nm_4, nm_6, nm_7, nm_8, nm_12, nm_16, na_0, na_2, na_3, na_4, na_5, na_6, na_7, na_8, nm_p, nm_m, nI_clamp]); exact rfl) dJ2_fastRemove_15 ?_
  refine x_dup hκ dJ2_fastRemove_16 rfl ?_
  refine x_istore_n hκ dJ2_fastRemove_17 (by rw [hL]; decide) rfl ?_
  refine x_iload_n hκ dJ2_fastRemove_18 rfl ?_
  refine x_icmp_le (tgt := 34) hκ dJ2_fastRemove_19 (by decide) (fun c19 => ?_) (fun c19 => ?_)
  · -- J2_fastRemove 19T
    have i19 := c19
    simp (disch := omega) only [i32_lt, i32_le, i32_eq, Int32.reduceToInt, nI_toInt] at i19
    refine x_aload_n hκ dJ2_fastRemove_34 rfl ?_
    refine x_aload_n hκ dJ2_fastRemove_35 rfl ?_
    refine x_iload_n hκ dJ2_fastRemove_36 rfl ?_
    refine x_dup_x1 hκ dJ2_fastRemove_37 rfl rfl ?_
    refine c_put hκ kJ2 (by exact h.1) 2 (by decide) (Or.inl q150) rfl rfl (by rfl) (by rfl) dJ2_fastRemove_38 ?_
    refine x_null hκ dJ2_fastRemove_41 ?_
    refine c_aastN (t := 4) hκ (by exact h61) (by decide) (by decide) (by exact (show _ = s.2.2.2.2 ar from rfl)) (vp_in_nI (by omega) (by omega)) (by (try simp (disch := omega) only [oS_k, oS_o, oS_a, oS_f, oS_n, aS_k, aS_o, aS_a, aS_f, aS_n, fS_k, fS_o, fS_a, fS_f, fS_n, nO_k, nO_o, nO_a, nA_k, nA_o, nA_a, nA_f, nA_n, nF_k, nF_o, nF_a, nF_f, nF_n, Nat.reduceEqDiff, ↓reduceIte, and_true, true_and, and_false, false_and, reduceCtorEq, xl_0, xl_1, xl_2, nI_add, nI_1, nm_2, nm_3, nm_4, nm_6, nm_7, nm_8, nm_12, nm_16, na_0, na_2, na_3, na_4, na_5, na_6, na_7, na_8, nm_p, nm_m, nI_clamp]); exact rfl) dJ2_fastRemove_42 ?_
    refine c_retv hκ hr dJ2_fastRemove_43 ?_
    refine ⟨⟨h.1, ⟨m + 1, ?_⟩, ?_, ?_, Or.inr ⟨h61, ?_, h63, h64, fun j hj => ?_, h66⟩⟩, ?_⟩
    · rw [fS_o, oS_o, if_neg (by omega), oS_o, if_pos ⟨rfl, rfl⟩]
    · rw [fS_o, oS_o, if_neg (by omega), oS_o, if_neg (by omega)]; exact h.2.2.1
    · rw [fS_o, oS_o, if_pos ⟨rfl, rfl⟩]
    · show n - 1 ≤ s.2.2.2.2 ar; omega
    · rw [fS_f, if_neg (by omega)]
      show s.2.2.2.1 ar j = _
      unfold rmv
      rw [if_pos (by omega)]
      exact h65 j (by omega)
    · exact (Kp.oS (P := fun b => b = a ∨ b = ar) (Or.inl rfl)).trans ((Kp.oS (P := fun b => b = a ∨ b = ar) (Or.inl rfl)).trans (Kp.fS (P := fun b => b = a ∨ b = ar) (Or.inr rfl)) (fun _ _ z => z)) (fun _ _ z => z)
  · -- J2_fastRemove 19F
    have i19 := c19
    simp (disch := omega) only [i32_lt, i32_le, i32_eq, Int32.reduceToInt, nI_toInt] at i19
    refine x_aload_n hκ dJ2_fastRemove_22 rfl ?_
    refine x_iload_n hκ dJ2_fastRemove_23 rfl ?_
    refine x_iconst (v := 1) hκ dJ2_fastRemove_24 (by decide) ?_
    refine x_iaddN hκ (by (try simp (disch := omega) only [oS_k, oS_o, oS_a, oS_f, oS_n, aS_k, aS_o, aS_a, aS_f, aS_n, fS_k, fS_o, fS_a, fS_f, fS_n, nO_k, nO_o, nO_a, nA_k, nA_o, nA_a, nA_f, nA_n, nF_k, nF_o, nF_a, nF_f, nF_n, Nat.reduceEqDiff, ↓reduceIte, and_true, true_and, and_false, false_and, reduceCtorEq, xl_0, xl_1, xl_2, nI_add, nI_1, nm_2, nm_3, nm_4, nm_6, nm_7, nm_8, nm_12, nm_16, na_0, na_2, na_3, na_4, na_5, na_6, na_7, na_8, nm_p, nm_m, nI_clamp]); exact rfl) dJ2_fastRemove_25 ?_
    refine x_aload_n hκ dJ2_fastRemove_26 rfl ?_
    refine x_iload_n hκ dJ2_fastRemove_27 rfl ?_
    refine x_iload_n hκ dJ2_fastRemove_28 rfl ?_
    refine x_iload_n hκ dJ2_fastRemove_29 rfl ?_
    refine x_isub hκ dJ2_fastRemove_30 ?_
    rw [show nI (n - 1) - nI i = nI (n - 1 - i) from pk_sub (by omega)]
    refine c_copyq (n0 := s.2.2.2.2 ar) (n1 := s.2.2.2.2 ar) (s1 := i + 1) (d1 := i) (m1 := n - 1 - i) hκ q967 q377 q376 q92 (by exact h61) (by exact h61) (by exact rfl) (by exact rfl) (nI_pos (by omega)) (nI_pos (by omega)) (nI_pos (by omega)) (nI_clamp (by omega)) (nI_clamp (by omega)) (nI_clamp (by omega)) (by omega) (by omega) (fun j hj y hy => by have h7 := h65 (i + 1 + j) (by omega); rw [oS_f] at hy; rw [h7] at hy; cases hy; exact he _ (by omega)) (by omega) (Nat.le_of_ble_eq_true rfl) dJ2_fastRemove_31 ?_
    refine x_aload_n hκ dJ2_fastRemove_34 rfl ?_
    refine x_aload_n hκ dJ2_fastRemove_35 rfl ?_
    refine x_iload_n hκ dJ2_fastRemove_36 rfl ?_
    refine x_dup_x1 hκ dJ2_fastRemove_37 rfl rfl ?_
    refine c_put hκ kJ2 (by exact h.1) 2 (by decide) (Or.inl q150) rfl rfl (by rfl) (by rfl) dJ2_fastRemove_38 ?_
    refine x_null hκ dJ2_fastRemove_41 ?_
    refine c_aastN (t := 4) hκ (by exact h61) (by decide) (by decide) (by exact (show _ = s.2.2.2.2 ar from rfl)) (vp_in_nI (by omega) (by omega)) (by (try simp (disch := omega) only [oS_k, oS_o, oS_a, oS_f, oS_n, aS_k, aS_o, aS_a, aS_f, aS_n, fS_k, fS_o, fS_a, fS_f, fS_n, nO_k, nO_o, nO_a, nA_k, nA_o, nA_a, nA_f, nA_n, nF_k, nF_o, nF_a, nF_f, nF_n, Nat.reduceEqDiff, ↓reduceIte, and_true, true_and, and_false, false_and, reduceCtorEq, xl_0, xl_1, xl_2, nI_add, nI_1, nm_2, nm_3, nm_4, nm_6, nm_7, nm_8, nm_12, nm_16, na_0, na_2, na_3, na_4, na_5, na_6, na_7, na_8, nm_p, nm_m, nI_clamp]); exact rfl) dJ2_fastRemove_42 ?_
    refine c_retv hκ hr dJ2_fastRemove_43 ?_
    refine ⟨⟨h.1, ⟨m + 1, ?_⟩, ?_, ?_, Or.inr ⟨h61, ?_, h63, h64, fun j hj => ?_, h66⟩⟩, ?_⟩
    · rw [fS_o, oS_o, if_neg (by omega), fB_o, oS_o, if_pos ⟨rfl, rfl⟩]
    · rw [fS_o, oS_o, if_neg (by omega), fB_o, oS_o, if_neg (by omega)]; exact h.2.2.1
    · rw [fS_o, oS_o, if_pos ⟨rfl, rfl⟩]
    · show n - 1 ≤ s.2.2.2.2 ar; omega
    · rw [fS_f, if_neg (by omega), oS_f, fB_f, if_pos rfl]
      unfold va_cpy rmv
      by_cases hji : j < i
      · rw [if_neg (by omega), if_pos hji]
        exact h65 j (by omega)
      · rw [if_pos (by omega), if_neg hji, show i + 1 + (j - i) = j + 1 by omega]
        exact h65 (j + 1) (by omega)
    · exact (Kp.oS (P := fun b => b = a ∨ b = ar) (Or.inl rfl)).trans ((Kp.fB (P := fun b => b = a ∨ b = ar) (Or.inr rfl)).trans ((Kp.oS (P := fun b => b = a ∨ b = ar) (Or.inl rfl)).trans (Kp.fS (P := fun b => b = a ∨ b = ar) (Or.inr rfl)) (fun _ _ z => z)) (fun _ _ z => z)) (fun _ _ z => z)
theorem mJ2_remove {E : gE} {s : CSt} {a ar n i : Nat} {e : Nat → Nat} (h : Lst E s a ar n e) (hi : i < n) (he : ∀ i, i < n → ObK s (e i)) : CMg E s yJ2_remove cJ2_remove 4 (some (.object "java/lang/Object")) 3 0 0 [.ref a, .int (nI i)] (qR (fun r s' => r = e i ∧ Lst E s' a ar (n - 1) (rmv e i) ∧ Kp (fun b => b = a ∨ b = ar) s s')) := by
  have hn := h.n
  rcases h.2.2.2.2 with h6 | ⟨h61, h62, h63, h64, h65, h66⟩
  · omega
  refine CMg.of (by decide) (Nat.le_of_ble_eq_true rfl) ?_
  rintro κ rfl hL hκ hr
  refine x_iload_n hκ dJ2_remove_0 rfl ?_
  refine x_aload_n hκ dJ2_remove_1 rfl ?_
  refine c_get hκ kJ2 (by exact h.1) 2 (by decide) (Or.inl q150) rfl (by exact h.2.2.2.1) dJ2_remove_2 ?_
  refine x_callSi hκ (mJ5_checkIndex hi (by omega)) (by omega) (by decide) wJ2_118 aJ5_checkIndex rfl (Nat.le_of_ble_eq_true rfl) dJ2_remove_5 (fun r5 h5 => ?_)
  refine x_pop hκ dJ2_remove_8 rfl ?_
  refine x_aload_n hκ dJ2_remove_9 rfl ?_
  refine c_get hκ kJ2 (by exact h.1) 1 (by decide) (Or.inl q149) rfl (by exact h.2.2.1) dJ2_remove_10 ?_
  refine x_astore_n hκ dJ2_remove_13 (by rw [hL]; decide) rfl ?_
  refine x_aload_n hκ dJ2_remove_14 rfl ?_
  refine x_iload_n hκ dJ2_remove_15 rfl ?_
  refine c_aald (t := 4) hκ (by exact h61) (by decide) (by decide) (by exact (show _ = s.2.2.2.2 ar from rfl)) (vp_in_nI (by omega) (by omega)) (by rw [nI_clamp (by omega)]; exact h65 i hi) dJ2_remove_16 ?_
  refine x_astore_n hκ dJ2_remove_17 (by rw [hL]; decide) rfl ?_
  refine x_aload_n hκ dJ2_remove_18 rfl ?_
  refine x_aload_n hκ dJ2_remove_19 rfl ?_
  refine x_iload_n hκ dJ2_remove_20 rfl ?_
  refine c_callV  hκ (mJ2_fastRemove h hi he) (by omega) (by decide) wJ2_144 aJ2_fastRemove kJ2 (by exact h.1) rfl (Nat.le_of_ble_eq_true rfl) dJ2_remove_21 (jV (fun s21 h21 => ?_))
  refine x_aload_n hκ dJ2_remove_24 rfl ?_
  refine c_retr hκ hr (Or.inl ⟨_, rfl⟩) dJ2_remove_25 ?_
  exact ⟨rfl, h21⟩
theorem mJ2_clear {E : gE} {s : CSt} {a ar n : Nat} {e : Nat → Nat} (h : Lst E s a ar n e) : CMg E s yJ2_clear cJ2_clear 4 none 1 0 0 [.ref a] (qV (fun s' => Lst E s' a ar 0 e ∧ Kp (fun b => b = a ∨ b = ar) s s')) := by
  obtain ⟨m, hm⟩ := h.2.1
  have hn := h.n
  refine CMg.of (by decide) (Nat.le_of_ble_eq_true rfl) ?_
  rintro κ rfl hL hκ hr
  have loop : ∀ (k i : Nat) (s1 : CSt), n = i + k → Lst (kE κ) s1 a ar 0 e → (n = 0 ∨ (s1.1 ar = 44 ∧ n ≤ s1.2.2.2.2 ar ∧ s1.2.2.2.2 ar ≤ 20000)) → Kp (fun b => b = a ∨ b = ar) s s1 → X κ (sG (kE κ) s1) 0 0 27 [some (.ref a), some (.ref ar), some (.int (nI n)), some (.int (nI i))] [] := by
    intro k
    induction k with
    | zero =>
      intro i s1 hk h1 h2 h3
      refine x_iload_n hκ dJ2_clear_27 rfl ?_
      refine x_iload_n hκ dJ2_clear_28 rfl ?_
      refine x_icmp_ge (tgt := 42) hκ dJ2_clear_29 (by decide) (fun c29 => ?_) (fun c29 => ?_)
      · -- J2_clear 29T
        have i29 := c29
        simp (disch := omega) only [i32_lt, i32_le, i32_eq, Int32.reduceToInt, nI_toInt] at i29
        refine c_retv hκ hr dJ2_clear_42 ?_
        exact ⟨h1, h3⟩
      · -- J2_clear 29F
        have i29 := c29
        simp (disch := omega) only [i32_lt, i32_le, i32_eq, Int32.reduceToInt, nI_toInt] at i29
        exact absurd (by rw [show n = i by omega]; exact Int32.le_refl _) c29
    | succ k ih =>
      intro i s1 hk h1 h2 h3
      rcases h2 with h2 | h2
      · omega
      refine x_iload_n hκ dJ2_clear_27 rfl ?_
      refine x_iload_n hκ dJ2_clear_28 rfl ?_
      refine x_icmp_ge (tgt := 42) hκ dJ2_clear_29 (by decide) (fun c29 => ?_) (fun c29 => ?_)
      · -- J2_clear 29T
        have i29 := c29
        simp (disch := omega) only [i32_lt, i32_le, i32_eq, Int32.reduceToInt, nI_toInt] at i29
        omega
      · -- J2_clear 29F
        have i29 := c29
        simp (disch := omega) only [i32_lt, i32_le, i32_eq, Int32.reduceToInt, nI_toInt] at i29
        refine x_aload_n hκ dJ2_clear_32 rfl ?_
        refine x_iload_n hκ dJ2_clear_33 rfl ?_
        refine x_null hκ dJ2_clear_34 ?_
        refine c_aastN (t := 4) hκ (by exact h2.1) (by decide) (by decide) (by exact (show _ = s1.2.2.2.2 ar from rfl)) (vp_in_nI (by omega) (by omega)) (by (try simp (disch := omega) only [oS_k, oS_o, oS_a, oS_f, oS_n, aS_k, aS_o, aS_a, aS_f, aS_n, fS_k, fS_o, fS_a, fS_f, fS_n, nO_k, nO_o, nO_a, nA_k, nA_o, nA_a, nA_f, nA_n, nF_k, nF_o, nF_a, nF_f, nF_n, Nat.reduceEqDiff, ↓reduceIte, and_true, true_and, and_false, false_and, reduceCtorEq, xl_0, xl_1, xl_2, nI_add, nI_1, nm_2, nm_3, nm_4, nm_6, nm_7, nm_8, nm_12, nm_16, na_0, na_2, na_3, na_4, na_5, na_6, na_7, na_8, nm_p, nm_m, nI_clamp]); exact rfl) dJ2_clear_35 ?_
        refine x_iincN (y := 1) hκ dJ2_clear_36 (by decide) rfl (by rw [hL]; decide) rfl (by (try simp (disch := omega) only [oS_k, oS_o, oS_a, oS_f, oS_n, aS_k, aS_o, aS_a, aS_f, aS_n, fS_k, fS_o, fS_a, fS_f, fS_n, nO_k, nO_o, nO_a, nA_k, nA_o, nA_a, nA_f, nA_n, nF_k, nF_o, nF_a, nF_f, nF_n, Nat.reduceEqDiff, ↓reduceIte, and_true, true_and, and_false, false_and, reduceCtorEq, xl_0, xl_1, xl_2, nI_add, nI_1, nm_2, nm_3, nm_4, nm_6, nm_7, nm_8, nm_12, nm_16, na_0, na_2, na_3, na_4, na_5, na_6, na_7, na_8, nm_p, nm_m, nI_clamp]); exact rfl) ?_
        refine x_goto (tgt := 27) hκ dJ2_clear_39 (by decide) ?_
        refine ih (i + 1) _ (by omega) ⟨h1.1, h1.2.1, h1.2.2.1, h1.2.2.2.1, ?_⟩ (Or.inr h2) (h3.trans (Kp.fS (P := fun b => b = a ∨ b = ar) (Or.inr rfl)) (fun _ _ z => z))
        rcases h1.2.2.2.2 with h4 | h4
        · exact Or.inl h4
        · exact Or.inr ⟨h4.1, h4.2.1, h4.2.2.1, h4.2.2.2.1, fun j hj => absurd hj (Nat.not_lt_zero j), h4.2.2.2.2.2⟩
  refine x_aload_n hκ dJ2_clear_0 rfl ?_
  refine x_dup hκ dJ2_clear_1 rfl ?_
  refine c_getS hκ kJ2 (by exact h.1) 0 (by decide) q152 q153 (by exact hm) dJ2_clear_2 ?_
  refine x_iconst (v := 1) hκ dJ2_clear_5 (by decide) ?_
  refine x_iadd hκ dJ2_clear_6 ?_
  refine c_putS hκ kJ2 (by exact h.1) 0 (by decide) q152 q153 rfl (by rfl) (by rfl) dJ2_clear_7 ?_
  refine x_aload_n hκ dJ2_clear_10 rfl ?_
  refine c_get hκ kJ2 (by exact h.1) 1 (by decide) (Or.inl q149) rfl (by exact ((oS_o.trans (if_neg (by omega))).trans h.2.2.1)) dJ2_clear_11 ?_
  refine x_astore_n hκ dJ2_clear_14 (by rw [hL]; decide) rfl ?_
  refine x_aload_n hκ dJ2_clear_15 rfl ?_
  refine c_get hκ kJ2 (by exact h.1) 2 (by decide) (Or.inl q150) rfl (by exact ((oS_o.trans (if_neg (by omega))).trans h.2.2.2.1)) dJ2_clear_16 ?_
  refine x_istore_n hκ dJ2_clear_19 (by rw [hL]; decide) rfl ?_
  refine x_aload_n hκ dJ2_clear_20 rfl ?_
  refine x_iconst (v := 0) hκ dJ2_clear_21 (by decide) ?_
  refine x_dup_x1 hκ dJ2_clear_22 rfl rfl ?_
  refine c_put hκ kJ2 (by exact h.1) 2 (by decide) (Or.inl q150) rfl rfl (by rfl) (by rfl) dJ2_clear_23 ?_
  refine x_istore_n hκ dJ2_clear_26 (by rw [hL]; decide) rfl ?_
  refine loop n 0 _ (by omega) ⟨h.1, ⟨m + 1, ?_⟩, ?_, ?_, ?_⟩ ?_ ?_
  · rw [oS_o, if_neg (by omega), oS_o, if_pos ⟨rfl, rfl⟩]
  · rw [oS_o, if_neg (by omega), oS_o, if_neg (by omega)]; exact h.2.2.1
  · rw [oS_o, if_pos ⟨rfl, rfl⟩]; rfl
  · rcases h.2.2.2.2 with h4 | h4
    · exact Or.inl ⟨h4.1, rfl⟩
    · exact Or.inr ⟨h4.1, Nat.zero_le _, h4.2.2.1, h4.2.2.2.1, fun j hj => absurd hj (Nat.not_lt_zero j), h4.2.2.2.2.2⟩
  · rcases h.2.2.2.2 with h4 | h4
    · exact Or.inl h4.2
    · exact Or.inr ⟨h4.1, h4.2.1, h4.2.2.1⟩
  · exact (Kp.oS (P := fun b => b = a ∨ b = ar) (Or.inl rfl)).trans (Kp.oS (P := fun b => b = a ∨ b = ar) (Or.inl rfl)) (fun _ _ z => z)
