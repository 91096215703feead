
/-! the component: rules told of -/
theorem acA.stop {x y c : Int32} (h : acA x y c) : x = 83 ↔ c = 10 := by
  rcases h with ⟨rfl, h1, h2, -⟩ | ⟨rfl, rfl⟩ | ⟨rfl, h1, h2, -⟩ | ⟨rfl, rfl⟩ | ⟨rfl, rfl⟩ | ⟨rfl, rfl⟩ | ⟨rfl, rfl⟩
  · exact ⟨fun z => absurd z (by decide), fun z => by rw [z] at h2; exact absurd h2 (by decide)⟩
  · decide
  · exact ⟨fun z => absurd z (by decide), fun z => by rw [z] at h2; exact absurd h2 (by decide)⟩
  · decide
  · decide
  · decide
  · decide
theorem mX9_stops {E : gE} {Z : Nat → Prop} {s : CSt} {al : List Int32} {r d : Nat} {q : List Int32 × List Int32} (h : RlA Z s al r q) : CMg E s yX9_stops cX9_stops 3 (some .boolean) d 0 0 [.ref r] (qI (fun z s' => Tz (10 ∈ q.2) z ∧ s' = s)) := by
  obtain ⟨h1, h2, te, a1, a2, g1, g2, g3, g4, g5, g6, g8, g9, g10, g11, g12, g13, g14⟩ := h
  refine CMg.of (by decide) (Nat.le_of_ble_eq_true rfl) ?_
  rintro κ rfl hL hκ hr
  have loop : ∀ (m i : Nat) (z : Int32), i + m = q.2.length → Tz (10 ∈ q.2.take i) z → X κ (sG (kE κ) s) 0 0 4 [some (.ref r), some (.int z), some (.int (nI i))] [] := by
    intro m
    induction m with
    | zero =>
      intro i z hi hz
      obtain rfl : i = q.2.length := by omega
      rw [List.take_length] at hz
      refine x_iload_n hκ dX9_stops_4 rfl ?_
      refine x_aload_n hκ dX9_stops_5 rfl ?_
      refine c_get hκ kX9 (by exact h2) 3 (by decide) (Or.inl q185) rfl (by exact g4) dX9_stops_6 ?_
      refine x_icmp_ge (tgt := 37) hκ dX9_stops_9 (by decide) (fun c9 => ?_) (fun c9 => ?_)
      · -- X9_stops 9T
        have i9 := c9
        simp (disch := omega) only [i32_lt, i32_le, i32_eq, Int32.reduceToInt, nI_toInt] at i9
        refine x_iload_n hκ dX9_stops_37 rfl ?_
        refine c_retz hκ hr dX9_stops_38 hz.b ?_
        exact ⟨hz, rfl⟩
      · -- X9_stops 9F
        have i9 := c9
        simp (disch := omega) only [i32_lt, i32_le, i32_eq, Int32.reduceToInt, nI_toInt] at i9
        exact absurd (Int32.le_refl _) c9
    | succ m ih =>
      intro i z hi hz
      have hil : i < q.2.length := by omega
      have hq : q.2[i]? = some q.2[i] := List.getElem?_eq_getElem hil
      have ht : q.2.take (i + 1) = q.2.take i ++ [q.2[i]] := by rw [List.take_add_one, hq]; rfl
      have hs := (g14 i _ hq).stop
      refine x_iload_n hκ dX9_stops_4 rfl ?_
      refine x_aload_n hκ dX9_stops_5 rfl ?_
      refine c_get hκ kX9 (by exact h2) 3 (by decide) (Or.inl q185) rfl (by exact g4) dX9_stops_6 ?_
      refine x_icmp_ge (tgt := 37) hκ dX9_stops_9 (by decide) (fun c9 => ?_) (fun c9 => ?_)
      · -- X9_stops 9T
        have i9 := c9
        simp (disch := omega) only [i32_lt, i32_le, i32_eq, Int32.reduceToInt, nI_toInt] at i9
        omega
      · -- X9_stops 9F
        have i9 := c9
        simp (disch := omega) only [i32_lt, i32_le, i32_eq, Int32.reduceToInt, nI_toInt] at i9
        refine x_iload_n hκ dX9_stops_12 rfl ?_
        refine x_aload_n hκ dX9_stops_13 rfl ?_
        refine c_get hκ kX9 (by exact h2) 1 (by decide) (Or.inl q181) rfl (by exact g2) dX9_stops_14 ?_
        refine x_iload_n hκ dX9_stops_17 rfl ?_
        refine c_iald hκ (by exact g10) (by exact g11) (by first | ((with_reducible refine vp_in_nI ?_ ?_) <;> omega) | exact i32_in (by omega) (by omega) | exact i32_in' (by simp only [Int32.toInt_add, Int32.toInt_mul, Int32.toInt_sub, Int32.reduceToInt, Int.bmod_add_bmod, Int.bmod_sub_bmod, Int.add_bmod_bmod, Int.sub_bmod_bmod, Int.bmod_mul_bmod, Int.mul_bmod_bmod]; exact i32_bm (by omega) (by omega)) (by omega) (by omega) | exact i32_in (by decide) (by decide)) (by exact (congrArg (s.2.2.1 a1) (nI_clamp (by omega)))) dX9_stops_18 ?_
        refine x_bipush (v := 83) hκ dX9_stops_19 (by decide) ?_
        refine x_icmp_ne (tgt := 28) hκ dX9_stops_21 (by decide) (fun c21 => ?_) (fun c21 => ?_)
        · -- X9_stops 21T
          have i21 := c21
          simp (disch := omega) only [i32_lt, i32_le, i32_eq, Int32.reduceToInt, nI_toInt] at i21
          refine x_iconst (v := 0) hκ dX9_stops_28 (by decide) ?_
          refine x_ior hκ dX9_stops_29 ?_
          refine x_istore_n hκ dX9_stops_30 (by rw [hL]; decide) rfl ?_
          refine x_iincN (y := 1) hκ dX9_stops_31 (by decide) rfl (by rw [hL]; decide) rfl (by (try simp (disch := omega) only [oS_k, oS_o, oS_a, oS_f, oS_n, aS_k, aS_o, aS_a, aS_f, aS_n, fS_k, fS_o, fS_a, fS_f, fS_n, nO_k, nO_o, nO_a, nA_k, nA_o, nA_a, nA_f, nA_n, nF_k, nF_o, nF_a, nF_f, nF_n, Nat.reduceEqDiff, ↓reduceIte, and_true, true_and, and_false, false_and, reduceCtorEq, xl_0, xl_1, xl_2, nI_add, nI_1, nm_2, nm_3, nm_4, nm_6, nm_7, nm_8, nm_12, nm_16, na_0, na_2, na_3, na_4, na_5, na_6, na_7, na_8, nm_p, nm_m, nI_clamp]); exact rfl) ?_
          refine x_goto (tgt := 4) hκ dX9_stops_34 (by decide) ?_
          refine ih (i + 1) _ (by omega) ?_
          have : z ||| 0 = z := by rcases hz.b with e | e <;> rw [e] <;> rfl
          rw [this, ht]
          refine hz.iff ⟨fun w => List.mem_append_left _ w, fun w => ?_⟩
          rcases List.mem_append.mp w with w | w
          · exact w
          · exact absurd (hs.mpr (List.mem_singleton.mp w).symm) c21
        · -- X9_stops 21F
          have i21 := c21
          simp (disch := omega) only [i32_lt, i32_le, i32_eq, Int32.reduceToInt, nI_toInt] at i21
          refine x_iconst (v := 1) hκ dX9_stops_24 (by decide) ?_
          refine x_goto (tgt := 29) hκ dX9_stops_25 (by decide) ?_
          refine x_ior hκ dX9_stops_29 ?_
          refine x_istore_n hκ dX9_stops_30 (by rw [hL]; decide) rfl ?_
          refine x_iincN (y := 1) hκ dX9_stops_31 (by decide) rfl (by rw [hL]; decide) rfl (by (try simp (disch := omega) only [oS_k, oS_o, oS_a, oS_f, oS_n, aS_k, aS_o, aS_a, aS_f, aS_n, fS_k, fS_o, fS_a, fS_f, fS_n, nO_k, nO_o, nO_a, nA_k, nA_o, nA_a, nA_f, nA_n, nF_k, nF_o, nF_a, nF_f, nF_n, Nat.reduceEqDiff, ↓reduceIte, and_true, true_and, and_false, false_and, reduceCtorEq, xl_0, xl_1, xl_2, nI_add, nI_1, nm_2, nm_3, nm_4, nm_6, nm_7, nm_8, nm_12, nm_16, na_0, na_2, na_3, na_4, na_5, na_6, na_7, na_8, nm_p, nm_m, nI_clamp]); exact rfl) ?_
          refine x_goto (tgt := 4) hκ dX9_stops_34 (by decide) ?_
          refine ih (i + 1) _ (by omega) ?_
          have : z ||| 1 = 1 := by rcases hz.b with e | e <;> rw [e] <;> rfl
          rw [this, ht]
          exact Tz1 (List.mem_append_right _ (by rw [hs.mp c21]; exact List.mem_singleton.mpr rfl))
  refine x_iconst (v := 0) hκ dX9_stops_0 (by decide) ?_
  refine x_istore_n hκ dX9_stops_1 (by rw [hL]; decide) rfl ?_
  refine x_iconst (v := 0) hκ dX9_stops_2 (by decide) ?_
  refine x_istore_n hκ dX9_stops_3 (by rw [hL]; decide) rfl ?_
  exact loop q.2.length 0 0 (by omega) (Tz0 (by rw [List.take_zero]; exact List.not_mem_nil))
theorem mX9_files {E : gE} {Z : Nat → Prop} {s : CSt} {al : List Int32} {r d : Nat} {q : List Int32 × List Int32} (h : RlA Z s al r q) : CMg E s yX9_files cX9_files 3 (some .int) d 0 0 [.ref r] (qI (fun z s' => z = fo q.2 0 ∧ s' = s)) := by
  obtain ⟨h1, h2, te, a1, a2, g1, g2, g3, g4, g5, g6, g8, g9, g10, g11, g12, g13, g14⟩ := h
  refine CMg.of (by decide) (Nat.le_of_ble_eq_true rfl) ?_
  rintro κ rfl hL hκ hr
  have loop : ∀ (m i : Nat) (t : Int32), i + m = q.2.length → fo (q.2.drop i) t = fo q.2 0 → X κ (sG (kE κ) s) 0 0 4 [some (.ref r), some (.int t), some (.int (nI i))] [] := by
    intro m
    induction m with
    | zero =>
      intro i t hi hz
      obtain rfl : i = q.2.length := by omega
      rw [List.drop_length] at hz
      refine x_iload_n hκ dX9_files_4 rfl ?_
      refine x_aload_n hκ dX9_files_5 rfl ?_
      refine c_get hκ kX9 (by exact h2) 3 (by decide) (Or.inl q185) rfl (by exact g4) dX9_files_6 ?_
      refine x_icmp_ge (tgt := 70) hκ dX9_files_9 (by decide) (fun c9 => ?_) (fun c9 => ?_)
      · -- X9_files 9T
        have i9 := c9
        simp (disch := omega) only [i32_lt, i32_le, i32_eq, Int32.reduceToInt, nI_toInt] at i9
        refine x_iload_n hκ dX9_files_70 rfl ?_
        refine c_reti hκ hr dX9_files_71 ?_
        exact ⟨hz, rfl⟩
      · -- X9_files 9F
        have i9 := c9
        simp (disch := omega) only [i32_lt, i32_le, i32_eq, Int32.reduceToInt, nI_toInt] at i9
        exact absurd (Int32.le_refl _) c9
    | succ m ih =>
      intro i t hi hz
      have hil : i < q.2.length := by omega
      have hq : q.2[i]? = some q.2[i] := List.getElem?_eq_getElem hil
      have ha := g14 i _ hq
      have hs := ha.stop
      rw [List.drop_eq_getElem_cons hil, fo] at hz
      have v1 : s.2.2.1 a1 (nI i).toNatClampNeg = s.2.2.1 a1 i := congrArg (s.2.2.1 a1) (nI_clamp (by omega))
      have v2 : s.2.2.1 a2 (nI i).toNatClampNeg = s.2.2.1 a2 i := congrArg (s.2.2.1 a2) (nI_clamp (by omega))
      refine x_iload_n hκ dX9_files_4 rfl ?_
      refine x_aload_n hκ dX9_files_5 rfl ?_
      refine c_get hκ kX9 (by exact h2) 3 (by decide) (Or.inl q185) rfl (by exact g4) dX9_files_6 ?_
      refine x_icmp_ge (tgt := 70) hκ dX9_files_9 (by decide) (fun c9 => ?_) (fun c9 => ?_)
      · -- X9_files 9T
        have i9 := c9
        simp (disch := omega) only [i32_lt, i32_le, i32_eq, Int32.reduceToInt, nI_toInt] at i9
        omega
      · -- X9_files 9F
        have i9 := c9
        simp (disch := omega) only [i32_lt, i32_le, i32_eq, Int32.reduceToInt, nI_toInt] at i9
        refine x_aload_n hκ dX9_files_12 rfl ?_
        refine c_get hκ kX9 (by exact h2) 1 (by decide) (Or.inl q181) rfl (by exact g2) dX9_files_13 ?_
        refine x_iload_n hκ dX9_files_16 rfl ?_
        refine c_iald hκ (by exact g10) (by exact g11) (by first | ((with_reducible refine vp_in_nI ?_ ?_) <;> omega) | exact i32_in (by omega) (by omega) | exact i32_in' (by simp only [Int32.toInt_add, Int32.toInt_mul, Int32.toInt_sub, Int32.reduceToInt, Int.bmod_add_bmod, Int.bmod_sub_bmod, Int.add_bmod_bmod, Int.sub_bmod_bmod, Int.bmod_mul_bmod, Int.mul_bmod_bmod]; exact i32_bm (by omega) (by omega)) (by omega) (by omega) | exact i32_in (by decide) (by decide)) (by exact v1) dX9_files_17 ?_
        refine x_bipush (v := 83) hκ dX9_files_18 (by decide) ?_
        refine x_icmp_eq (tgt := 70) hκ dX9_files_20 (by decide) (fun c20 => ?_) (fun c20 => ?_)
        · -- X9_files 20T
          have i20 := c20
          simp (disch := omega) only [i32_lt, i32_le, i32_eq, Int32.reduceToInt, nI_toInt] at i20
          refine x_iload_n hκ dX9_files_70 rfl ?_
          refine c_reti hκ hr dX9_files_71 ?_
          rw [if_pos (hs.mp c20), if_neg (by rw [hs.mp c20]; decide), Int32.or_zero] at hz
          exact ⟨hz, rfl⟩
        · -- X9_files 20F
          have i20 := c20
          simp (disch := omega) only [i32_lt, i32_le, i32_eq, Int32.reduceToInt, nI_toInt] at i20
          rw [if_neg (fun z => c20 (hs.mpr z))] at hz
          refine x_iload_n hκ dX9_files_23 rfl ?_
          refine x_aload_n hκ dX9_files_24 rfl ?_
          refine c_get hκ kX9 (by exact h2) 1 (by decide) (Or.inl q181) rfl (by exact g2) dX9_files_25 ?_
          refine x_iload_n hκ dX9_files_28 rfl ?_
          refine c_iald hκ (by exact g10) (by exact g11) (by first | ((with_reducible refine vp_in_nI ?_ ?_) <;> omega) | exact i32_in (by omega) (by omega) | exact i32_in' (by simp only [Int32.toInt_add, Int32.toInt_mul, Int32.toInt_sub, Int32.reduceToInt, Int.bmod_add_bmod, Int.bmod_sub_bmod, Int.add_bmod_bmod, Int.sub_bmod_bmod, Int.bmod_mul_bmod, Int.mul_bmod_bmod]; exact i32_bm (by omega) (by omega)) (by omega) (by omega) | exact i32_in (by decide) (by decide)) (by exact v1) dX9_files_29 ?_
          refine x_bipush (v := 70) hκ dX9_files_30 (by decide) ?_
          refine x_icmp_ne (tgt := 46) hκ dX9_files_32 (by decide) (fun c32 => ?_) (fun c32 => ?_)
          · -- X9_files 32T
            have i32 := c32
            simp (disch := omega) only [i32_lt, i32_le, i32_eq, Int32.reduceToInt, nI_toInt] at i32
            refine x_aload_n hκ dX9_files_46 rfl ?_
            refine c_get hκ kX9 (by exact h2) 1 (by decide) (Or.inl q181) rfl (by exact g2) dX9_files_47 ?_
            refine x_iload_n hκ dX9_files_50 rfl ?_
            refine c_iald hκ (by exact g10) (by exact g11) (by first | ((with_reducible refine vp_in_nI ?_ ?_) <;> omega) | exact i32_in (by omega) (by omega) | exact i32_in' (by simp only [Int32.toInt_add, Int32.toInt_mul, Int32.toInt_sub, Int32.reduceToInt, Int.bmod_add_bmod, Int.bmod_sub_bmod, Int.add_bmod_bmod, Int.sub_bmod_bmod, Int.bmod_mul_bmod, Int.mul_bmod_bmod]; exact i32_bm (by omega) (by omega)) (by omega) (by omega) | exact i32_in (by decide) (by decide)) (by exact v1) dX9_files_51 ?_
            refine x_bipush (v := 75) hκ dX9_files_52 (by decide) ?_
            refine x_icmp_ne (tgt := 61) hκ dX9_files_54 (by decide) (fun c54 => ?_) (fun c54 => ?_)
            · -- X9_files 54T
              have i54 := c54
              simp (disch := omega) only [i32_lt, i32_le, i32_eq, Int32.reduceToInt, nI_toInt] at i54
              refine x_iconst (v := 0) hκ dX9_files_61 (by decide) ?_
              refine x_ior hκ dX9_files_62 ?_
              refine x_istore_n hκ dX9_files_63 (by rw [hL]; decide) rfl ?_
              refine x_iincN (y := 1) hκ dX9_files_64 (by decide) rfl (by rw [hL]; decide) rfl (by (try simp (disch := omega) only [oS_k, oS_o, oS_a, oS_f, oS_n, aS_k, aS_o, aS_a, aS_f, aS_n, fS_k, fS_o, fS_a, fS_f, fS_n, nO_k, nO_o, nO_a, nA_k, nA_o, nA_a, nA_f, nA_n, nF_k, nF_o, nF_a, nF_f, nF_n, Nat.reduceEqDiff, ↓reduceIte, and_true, true_and, and_false, false_and, reduceCtorEq, xl_0, xl_1, xl_2, nI_add, nI_1, nm_2, nm_3, nm_4, nm_6, nm_7, nm_8, nm_12, nm_16, na_0, na_2, na_3, na_4, na_5, na_6, na_7, na_8, nm_p, nm_m, nI_clamp]); exact rfl) ?_
              refine x_goto (tgt := 4) hκ dX9_files_67 (by decide) ?_
              refine ih (i + 1) _ (by omega) ?_
              rw [if_neg] at hz
              · exact hz
              · rw [i32_lt]
                show ¬ _ < (4 : Int)
                rcases ha with ⟨z, -⟩ | ⟨z, -⟩ | ⟨-, z, -⟩ | ⟨-, z⟩ | ⟨-, z⟩ | ⟨-, z⟩ | ⟨-, z⟩
                · exact absurd z c32
                · exact absurd z c54
                · omega
                all_goals (rw [z]; decide)
            · -- X9_files 54F
              have i54 := c54
              simp (disch := omega) only [i32_lt, i32_le, i32_eq, Int32.reduceToInt, nI_toInt] at i54
              refine x_iconst (v := 1) hκ dX9_files_57 (by decide) ?_
              refine x_goto (tgt := 62) hκ dX9_files_58 (by decide) ?_
              refine x_ior hκ dX9_files_62 ?_
              refine x_istore_n hκ dX9_files_63 (by rw [hL]; decide) rfl ?_
              refine x_iincN (y := 1) hκ dX9_files_64 (by decide) rfl (by rw [hL]; decide) rfl (by (try simp (disch := omega) only [oS_k, oS_o, oS_a, oS_f, oS_n, aS_k, aS_o, aS_a, aS_f, aS_n, fS_k, fS_o, fS_a, fS_f, fS_n, nO_k, nO_o, nO_a, nA_k, nA_o, nA_a, nA_f, nA_n, nF_k, nF_o, nF_a, nF_f, nF_n, Nat.reduceEqDiff, ↓reduceIte, and_true, true_and, and_false, false_and, reduceCtorEq, xl_0, xl_1, xl_2, nI_add, nI_1, nm_2, nm_3, nm_4, nm_6, nm_7, nm_8, nm_12, nm_16, na_0, na_2, na_3, na_4, na_5, na_6, na_7, na_8, nm_p, nm_m, nI_clamp]); exact rfl) ?_
              refine x_goto (tgt := 4) hκ dX9_files_67 (by decide) ?_
              refine ih (i + 1) _ (by omega) ?_
              rcases ha with ⟨z, -⟩ | ⟨-, z⟩ | ⟨z, -⟩ | ⟨z, -⟩ | ⟨z, -⟩ | ⟨z, -⟩ | ⟨z, -⟩
              · rw [c54] at z; exact absurd z (by decide)
              · rw [z, if_pos (by decide)] at hz
                exact hz
              all_goals (rw [c54] at z; exact absurd z (by decide))
          · -- X9_files 32F
            have i32 := c32
            simp (disch := omega) only [i32_lt, i32_le, i32_eq, Int32.reduceToInt, nI_toInt] at i32
            refine x_iconst (v := 1) hκ dX9_files_35 (by decide) ?_
            refine x_aload_n hκ dX9_files_36 rfl ?_
            refine c_get hκ kX9 (by exact h2) 2 (by decide) (Or.inl q183) rfl (by exact g3) dX9_files_37 ?_
            refine x_iload_n hκ dX9_files_40 rfl ?_
            refine c_iald hκ (by exact g12) (by exact g13) (by first | ((with_reducible refine vp_in_nI ?_ ?_) <;> omega) | exact i32_in (by omega) (by omega) | exact i32_in' (by simp only [Int32.toInt_add, Int32.toInt_mul, Int32.toInt_sub, Int32.reduceToInt, Int.bmod_add_bmod, Int.bmod_sub_bmod, Int.add_bmod_bmod, Int.sub_bmod_bmod, Int.bmod_mul_bmod, Int.mul_bmod_bmod]; exact i32_bm (by omega) (by omega)) (by omega) (by omega) | exact i32_in (by decide) (by decide)) (by exact v2) dX9_files_41 ?_
            refine x_ishl hκ dX9_files_42 ?_
            refine x_goto (tgt := 62) hκ dX9_files_43 (by decide) ?_
            refine x_ior hκ dX9_files_62 ?_
            refine x_istore_n hκ dX9_files_63 (by rw [hL]; decide) rfl ?_
            refine x_iincN (y := 1) hκ dX9_files_64 (by decide) rfl (by rw [hL]; decide) rfl (by (try simp (disch := omega) only [oS_k, oS_o, oS_a, oS_f, oS_n, aS_k, aS_o, aS_a, aS_f, aS_n, fS_k, fS_o, fS_a, fS_f, fS_n, nO_k, nO_o, nO_a, nA_k, nA_o, nA_a, nA_f, nA_n, nF_k, nF_o, nF_a, nF_f, nF_n, Nat.reduceEqDiff, ↓reduceIte, and_true, true_and, and_false, false_and, reduceCtorEq, xl_0, xl_1, xl_2, nI_add, nI_1, nm_2, nm_3, nm_4, nm_6, nm_7, nm_8, nm_12, nm_16, na_0, na_2, na_3, na_4, na_5, na_6, na_7, na_8, nm_p, nm_m, nI_clamp]); exact rfl) ?_
            refine x_goto (tgt := 4) hκ dX9_files_67 (by decide) ?_
            refine ih (i + 1) _ (by omega) ?_
            rcases ha with ⟨-, z1, z2, z3⟩ | ⟨z, -⟩ | ⟨z, -⟩ | ⟨z, -⟩ | ⟨z, -⟩ | ⟨z, -⟩ | ⟨z, -⟩
            · rw [if_pos (by rw [i32_lt]; show _ < (4 : Int); omega), ← z3] at hz
              exact hz
            all_goals (rw [c32] at z; exact absurd z (by decide))
  refine x_iconst (v := 0) hκ dX9_files_0 (by decide) ?_
  refine x_istore_n hκ dX9_files_1 (by rw [hL]; decide) rfl ?_
  refine x_iconst (v := 0) hκ dX9_files_2 (by decide) ?_
  refine x_istore_n hκ dX9_files_3 (by rw [hL]; decide) rfl ?_
  exact loop q.2.length 0 0 (by omega) (by rw [List.drop_zero])
