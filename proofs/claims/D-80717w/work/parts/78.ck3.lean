theorem wX0_417 : GoodIn lw_all (wsV RX0 417 RX9 yX9_stops (ws_ yX9_stops cX9_stops 3 (some .boolean))) := lw_V q1039 q1040 q1041 q83 q1042
theorem aX9_stops : yX9_stops.cls = RX9 ∧ yX9_stops.cls ≠ "java/lang/invoke/MethodHandle" ∧ yX9_stops.cls ≠ "java/lang/invoke/VarHandle" ∧ (parseMethodDescriptor yX9_stops.desc).map (fun d => d.parameters.length) = some 0 := by decide +kernel
theorem wX0_422 : GoodIn lw_all (wsV RX0 422 RX6 yX6_canBe (ws_ yX6_canBe cX6_canBe 7 (some .boolean))) := lw_V q1025 q1026 q1027 q80 q1028
theorem aX6_canBe : yX6_canBe.cls = RX6 ∧ yX6_canBe.cls ≠ "java/lang/invoke/MethodHandle" ∧ yX6_canBe.cls ≠ "java/lang/invoke/VarHandle" ∧ (parseMethodDescriptor yX6_canBe.desc).map (fun d => d.parameters.length) = some 1 := by decide +kernel
theorem wX0_426 : GoodIn lw_all (wsV RX0 426 RX0 yX0_acting (ws_ yX0_acting cX0_acting 6 (some .int))) := lw_V q1035 q1037 qs32 q69 q1038
theorem aX0_acting : yX0_acting.cls = RX0 ∧ yX0_acting.cls ≠ "java/lang/invoke/MethodHandle" ∧ yX0_acting.cls ≠ "java/lang/invoke/VarHandle" ∧ (parseMethodDescriptor yX0_acting.desc).map (fun d => d.parameters.length) = some 1 := by decide +kernel
theorem vX6_18_J2 : IW RX6 18 RJ2 ⟨"java/util/List", "size", "()I"⟩ yJ2_size cJ2_size 1 (some .int) := ⟨lw_F q1030 q277 q279 q72 q281, q275, q274, rfl, q280, q278, q276⟩
theorem vX6_24_J2 : IW RX6 24 RJ2 ⟨"java/util/List", "get", "(I)Ljava/lang/Object;"⟩ yJ2_get cJ2_get 2 (some (FieldType.object "java/lang/Object")) := ⟨lw_F q1032 q286 q288 q72 q290, q285, q284, rfl, q289, q287, q276⟩
theorem wX6_28 : GoodIn lw_all (wsV RX6 28 RX6 yX6_isTrue (ws_ yX6_isTrue cX6_isTrue 2 (some .boolean))) := lw_V q1034 q847 q1611 q80 q849
theorem aX6_isTrue : yX6_isTrue.cls = RX6 ∧ yX6_isTrue.cls ≠ "java/lang/invoke/MethodHandle" ∧ yX6_isTrue.cls ≠ "java/lang/invoke/VarHandle" ∧ (parseMethodDescriptor yX6_isTrue.desc).map (fun d => d.parameters.length) = some 1 := by decide +kernel
/-! the component: which case -/
theorem canC_iff {a : List Int32} {c : Int32} : canC a c ↔ ∀ (k i : Nat) (x y : Int32), a[k]? = some x → a[i]? = some y → ¬ barsC c i k y x := ⟨fun h k i x y hx hy => h i k y x hy hx, fun h i k y x hy hx => h k i x y hx hy⟩
theorem at_div {k n : Nat} (hk : k < 9) (hn : n < 1000000) : nI (1000000 * k + n) / 1000000 = nI k := by
  rw [nd_M (by omega), show (1000000 * k + n) / 1000000 = k by omega]
theorem ksg_k : ∀ k : Fin 9, (ksg k.val = 102 ↔ nI k.val = 0) ∧ (ksg k.val = 62 ↔ nI k.val = 3) := by decide
theorem AtA.kind {Z : Nat → Prop} {s : CSt} {a p : Nat} {c : Int32} (h : AtA Z s a p c) : ∃ x y : Int32, s.2.1 a 0 = .int x ∧ s.2.1 a 1 = .int y ∧ s.2.1 a 2 = .int (nI p) ∧ (x = 102 ↔ c / 1000000 = 0) ∧ (x = 62 ↔ c / 1000000 = 3) ∧ (c / 1000000 = 3 → ∃ n : Nat, n < 1000000 ∧ y = nI n ∧ c = nI (3000000 + n)) := by
  obtain ⟨-, -, k, n, hk, hn, rfl, g1, g2, g3⟩ := h
  have e := ksg_k ⟨k, hk⟩
  refine ⟨_, _, g1, g2, g3, by rw [at_div hk hn]; exact e.1, by rw [at_div hk hn]; exact e.2, fun z => ?_⟩
  rw [at_div hk hn] at z
  have : k = 3 := by
    have e2 := nI_toInt (n := k) (by omega)
    rw [z] at e2
    simp only [Int32.reduceToInt] at e2
    omega
  subst this
  exact ⟨n, hn, rfl, rfl⟩
theorem mX6_canBe {E : gE} {Z : Nat → Prop} {s : CSt} {t la ar : Nat} {e : Nat → Nat} {al : List Int32} {c : Int32} (hk : s.1 t = 8) (hb : s.2.1 t 0 = .int c) (hl : Lst E s la ar al.length e) (ha : ∀ (k : Nat) (x : Int32), al[k]? = some x → AtA Z s (e k) k x) (hal : al.length ≤ 180) : CMg E s yX6_canBe cX6_canBe 7 (some .boolean) 4 0 0 [.ref t, .ref la] (qI (fun r s' => Tz (canC al c) r ∧ s' = s)) := by
  refine CMg.of (by decide) (Nat.le_of_ble_eq_true rfl) ?_
  rintro κ rfl hL hκ hr
  have hat : ∀ i : Nat, i < al.length → ∃ x, al[i]? = some x := fun i hi => ⟨_, List.getElem?_eq_getElem hi⟩
  have outer : ∀ (m k : Nat) (o3 o4 o5 o6 : Option Value), loOk [some (.ref t), some (.ref la), some (.int (nI k)), o3, o4, o5, o6] 4 = true → loOk [some (.ref t), some (.ref la), some (.int (nI k)), o3, o4, o5, o6] 5 = true → loOk [some (.ref t), some (.ref la), some (.int (nI k)), o3, o4, o5, o6] 6 = true → k + m = al.length → (∀ (k' i : Nat) (x y : Int32), k' < k → al[k']? = some x → al[i]? = some y → ¬ barsC c i k' y x) → X κ (sG (kE κ) s) 0 0 2 [some (.ref t), some (.ref la), some (.int (nI k)), o3, o4, o5, o6] [] := by
    intro m
    induction m with
    | zero =>
      intro k o3 o4 o5 o6 l4 l5 l6 hm hdone
      refine x_iload_n hκ dX6_canBe_2 rfl ?_
      refine x_aload_n hκ dX6_canBe_3 rfl ?_
      refine c_callF  hκ (mJ2_size hl) (by omega) (by decide) vX6_18_J2 fJ2_size kJ2 (by exact hl.1) rfl (Nat.le_of_ble_eq_true rfl) dX6_canBe_4 (jIr (fun r4 h4 => ?_))
      subst h4
      refine x_icmp_ge (tgt := 158) hκ dX6_canBe_9 (by decide) (fun c9 => ?_) (fun c9 => ?_)
      · -- X6_canBe 9T
        have i9 := c9
        simp (disch := omega) only [i32_lt, i32_le, i32_eq, Int32.reduceToInt, nI_toInt] at i9
        refine x_iconst (v := 1) hκ dX6_canBe_158 (by decide) ?_
        refine c_retz hκ hr dX6_canBe_159 (by first | exact Or.inl rfl | exact Or.inr rfl | assumption) ?_
        exact ⟨Tz1 (canC_iff.mpr (fun k' i x y hx hy => hdone k' i x y (by have := (List.getElem?_eq_some_iff.mp hx).1; omega) hx hy)), rfl⟩
      · -- X6_canBe 9F
        have i9 := c9
        simp (disch := omega) only [i32_lt, i32_le, i32_eq, Int32.reduceToInt, nI_toInt] at i9
        omega
    | succ m ih =>
      intro k o3 o4 o5 o6 l4 l5 l6 hm hdone
      have hkl : k < al.length := by omega
      obtain ⟨x, hx⟩ := hat k hkl
      have hax := ha k x hx
      obtain ⟨x1, x2, p1, p2, p3, p4, p5, p6⟩ := hax.kind
      have ka := hax.2.1
      have inner : ∀ (n i : Nat) (o5 o6 : Option Value), loOk [some (.ref t), some (.ref la), some (.int (nI k)), some (.ref (e k)), some (.int (nI i)), o5, o6] 5 = true → loOk [some (.ref t), some (.ref la), some (.int (nI k)), some (.ref (e k)), some (.int (nI i)), o5, o6] 6 = true → i + n = al.length → (∀ (i' : Nat) (y : Int32), i' < i → al[i']? = some y → ¬ barsC c i' k y x) → X κ (sG (kE κ) s) 0 0 26 [some (.ref t), some (.ref la), some (.int (nI k)), some (.ref (e k)), some (.int (nI i)), o5, o6] [] := by
        intro n
        have next : ∀ (i : Nat) (o5 o6 : Option Value), loOk [some (.ref t), some (.ref la), some (.int (nI k)), some (.ref (e k)), some (.int (nI i)), o5, o6] 5 = true → loOk [some (.ref t), some (.ref la), some (.int (nI k)), some (.ref (e k)), some (.int (nI i)), o5, o6] 6 = true → (∀ (i' : Nat) (y : Int32), al[i']? = some y → ¬ barsC c i' k y x) → X κ (sG (kE κ) s) 0 0 152 [some (.ref t), some (.ref la), some (.int (nI k)), some (.ref (e k)), some (.int (nI i)), o5, o6] [] := by
          intro i o5 o6 k5 k6 hall
          refine x_iincN (y := 1) hκ dX6_canBe_152 (by decide) rfl (by rw [hL]; decide) rfl (by (try simp (disch := omega) only [oS_k, oS_o, oS_a, oS_f, oS_n, aS_k, aS_o, aS_a, aS_f, aS_n, fS_k, fS_o, fS_a, fS_f, fS_n, nO_k, nO_o, nO_a, nA_k, nA_o, nA_a, nA_f, nA_n, nF_k, nF_o, nF_a, nF_f, nF_n, Nat.reduceEqDiff, ↓reduceIte, and_true, true_and, and_false, false_and, reduceCtorEq, xl_0, xl_1, xl_2, nI_add, nI_1, nm_2, nm_3, nm_4, nm_6, nm_7, nm_8, nm_12, nm_16, na_0, na_2, na_3, na_4, na_5, na_6, na_7, na_8, nm_p, nm_m, nI_clamp]); exact rfl) ?_
          refine x_goto (tgt := 2) hκ dX6_canBe_155 (by decide) ?_
          exact ih (k + 1) _ _ _ _ rfl k5 k6 (by omega) (fun k' i x' y hk' hx' hy => by
            rcases (by omega : k' < k ∨ k' = k) with z | z
            · exact hdone k' i x' y z hx' hy
            · subst z
              rw [hx] at hx'
              cases hx'
              exact hall i y hy)
        induction n with
        | zero =>
          intro i o5 o6 k5 k6 hn hdj
          refine x_iload hκ dX6_canBe_26 rfl ?_
          refine x_aload_n hκ dX6_canBe_28 rfl ?_
          refine c_callF  hκ (mJ2_size hl) (by omega) (by decide) vX6_18_J2 fJ2_size kJ2 (by exact hl.1) rfl (Nat.le_of_ble_eq_true rfl) dX6_canBe_29 (jIr (fun r29 h29 => ?_))
          subst h29
          refine x_icmp_ge (tgt := 152) hκ dX6_canBe_34 (by decide) (fun c34 => ?_) (fun c34 => ?_)
          · -- X6_canBe 34T
            have i34 := c34
            simp (disch := omega) only [i32_lt, i32_le, i32_eq, Int32.reduceToInt, nI_toInt] at i34
            exact next i o5 o6 k5 k6 (fun i' y hy => hdj i' y (by have := (List.getElem?_eq_some_iff.mp hy).1; omega) hy)
          · -- X6_canBe 34F
            have i34 := c34
            simp (disch := omega) only [i32_lt, i32_le, i32_eq, Int32.reduceToInt, nI_toInt] at i34
            omega
        | succ n ih2 =>
          intro i o5 o6 k5 k6 hn hdj
          have hil : i < al.length := by omega
          obtain ⟨y, hy⟩ := hat i hil
          have hay := ha i y hy
          obtain ⟨y1, y2, q1, q2, q3, q4, q5, q6⟩ := hay.kind
          have kb := hay.2.1
          have step : bt1 c k → ¬ barsC c i k y x → ∀ (o6 : Option Value), X κ (sG (kE κ) s) 0 0 146 [some (.ref t), some (.ref la), some (.int (nI k)), some (.ref (e k)), some (.int (nI i)), some (.ref (e i)), o6] [] := by
            intro hbk hno o6
            refine x_iincN (y := 1) hκ dX6_canBe_146 (by decide) rfl (by rw [hL]; decide) rfl (by (try simp (disch := omega) only [oS_k, oS_o, oS_a, oS_f, oS_n, aS_k, aS_o, aS_a, aS_f, aS_n, fS_k, fS_o, fS_a, fS_f, fS_n, nO_k, nO_o, nO_a, nA_k, nA_o, nA_a, nA_f, nA_n, nF_k, nF_o, nF_a, nF_f, nF_n, Nat.reduceEqDiff, ↓reduceIte, and_true, true_and, and_false, false_and, reduceCtorEq, xl_0, xl_1, xl_2, nI_add, nI_1, nm_2, nm_3, nm_4, nm_6, nm_7, nm_8, nm_12, nm_16, na_0, na_2, na_3, na_4, na_5, na_6, na_7, na_8, nm_p, nm_m, nI_clamp]); exact rfl) ?_
            refine x_goto (tgt := 26) hκ dX6_canBe_149 (by decide) ?_
            exact ih2 (i + 1) _ _ rfl rfl (by omega) (fun i' y' hi' hy' => by
              rcases (by omega : i' < i ∨ i' = i) with z | z
              · exact hdj i' y' z hy'
              · subst z
                rw [hy] at hy'
                cases hy'
                exact hno)
          have bars : bt1 c k → ∀ z6 : Int32, Tz ((¬ i = k ∧ y / 1000000 = 0 ∧ x / 1000000 = 0) ∧ bt1 c i ∧ bt1 c k) z6 → X κ (sG (kE κ) s) 0 0 97 [some (.ref t), some (.ref la), some (.int (nI k)), some (.ref (e k)), some (.int (nI i)), some (.ref (e i)), o6] [.int z6] := by
            intro hbk z6 hz
            refine x_istore hκ dX6_canBe_97 (by rw [hL]; decide) rfl ?_
            refine x_iload hκ dX6_canBe_99 rfl ?_
            refine x_if_ne (tgt := 144) hκ dX6_canBe_101 (by decide) (fun c101 => ?_) (fun c101 => ?_)
            · -- X6_canBe 101T
              have i101 := c101
              simp (disch := omega) only [i32_lt, i32_le, i32_eq, Int32.reduceToInt, nI_toInt] at i101
              refine x_iconst (v := 0) hκ dX6_canBe_144 (by decide) ?_
              refine c_retz hκ hr dX6_canBe_145 (by first | exact Or.inl rfl | exact Or.inr rfl | assumption) ?_
              exact ⟨Tz0 (fun z => canC_iff.mp z k i x y hx hy (Or.inl (hz.t c101))), rfl⟩
            · -- X6_canBe 101F
              have i101 := c101
              simp (disch := omega) only [i32_lt, i32_le, i32_eq, Int32.reduceToInt, nI_toInt] at i101
              refine x_aload_n hκ dX6_canBe_104 rfl ?_
              refine c_get hκ kX12 (by exact ka) 0 (by decide) (Or.inr ⟨_, q259⟩) rfl (by exact p1) dX6_canBe_105 ?_
              refine x_bipush (v := 62) hκ dX6_canBe_108 (by decide) ?_
              refine x_icmp_ne (tgt := 146) hκ dX6_canBe_110 (by decide) (fun c110 => ?_) (fun c110 => ?_)
              · -- X6_canBe 110T
                have i110 := c110
                simp (disch := omega) only [i32_lt, i32_le, i32_eq, Int32.reduceToInt, nI_toInt] at i110
                exact step hbk (fun z => by rcases z with z | z; exact hz.f c101 z; exact c110 (p5.mpr z.1.2.1)) _
              · -- X6_canBe 110F
                have i110 := c110
                simp (disch := omega) only [i32_lt, i32_le, i32_eq, Int32.reduceToInt, nI_toInt] at i110
                refine x_aload hκ dX6_canBe_113 rfl ?_
                refine c_get hκ kX12 (by exact kb) 0 (by decide) (Or.inr ⟨_, q259⟩) rfl (by exact q1) dX6_canBe_115 ?_
                refine x_bipush (v := 62) hκ dX6_canBe_118 (by decide) ?_
                refine x_icmp_ne (tgt := 146) hκ dX6_canBe_120 (by decide) (fun c120 => ?_) (fun c120 => ?_)
                · -- X6_canBe 120T
                  have i120 := c120
                  simp (disch := omega) only [i32_lt, i32_le, i32_eq, Int32.reduceToInt, nI_toInt] at i120
                  exact step hbk (fun z => by rcases z with z | z; exact hz.f c101 z; exact c120 (q5.mpr z.1.1)) _
                · -- X6_canBe 120F
                  have i120 := c120
                  simp (disch := omega) only [i32_lt, i32_le, i32_eq, Int32.reduceToInt, nI_toInt] at i120
                  obtain ⟨nx, hnx, ex, ecx⟩ := p6 (p5.mp c110)
                  obtain ⟨ny, hny, ey, ecy⟩ := q6 (q5.mp c120)
                  have hlt : y < x ↔ y2 < x2 := by rw [ecx, ecy, ex, ey, i32_lt, i32_lt, nI_toInt (by omega), nI_toInt (by omega), nI_toInt (by omega), nI_toInt (by omega)]; omega
                  refine x_aload hκ dX6_canBe_123 rfl ?_
                  refine c_get hκ kX12 (by exact kb) 1 (by decide) (Or.inr ⟨_, q262⟩) rfl (by exact q2) dX6_canBe_125 ?_
                  refine x_aload_n hκ dX6_canBe_128 rfl ?_
                  refine c_get hκ kX12 (by exact ka) 1 (by decide) (Or.inr ⟨_, q262⟩) rfl (by exact p2) dX6_canBe_129 ?_
                  refine x_icmp_ge (tgt := 146) hκ dX6_canBe_132 (by decide) (fun c132 => ?_) (fun c132 => ?_)
                  · -- X6_canBe 132T
                    have i132 := c132
                    simp (disch := omega) only [i32_lt, i32_le, i32_eq, Int32.reduceToInt, nI_toInt] at i132
                    exact step hbk (fun z => by rcases z with z | z; exact hz.f c101 z; exact absurd (hlt.mp z.1.2.2) (Int32.not_lt.mpr c132)) _
                  · -- X6_canBe 132F
                    have i132 := c132
                    simp (disch := omega) only [i32_lt, i32_le, i32_eq, Int32.reduceToInt, nI_toInt] at i132
                    refine x_aload_n hκ dX6_canBe_135 rfl ?_
                    refine x_aload hκ dX6_canBe_136 rfl ?_
                    refine c_callV  hκ (mX6_isTrue (d := 0) hk hb kb q3) (by omega) (by decide) wX6_28 aX6_isTrue kX6 (by exact hk) rfl (Nat.le_of_ble_eq_true rfl) dX6_canBe_138 (jIr (fun r138 h138 => ?_))
                    refine x_if_ne (tgt := 146) hκ dX6_canBe_141 (by decide) (fun c141 => ?_) (fun c141 => ?_)
                    · -- X6_canBe 141T
                      have i141 := h138.t c141
                      try simp only [Int32.reduceToInt] at i141
                      exact step hbk (fun z => by rcases z with z | z; exact hz.f c101 z; exact z.2.2 i141) _
                    · -- X6_canBe 141F
                      have i141 := h138.f c141
                      try simp only [Int32.reduceToInt] at i141
                      refine x_iconst (v := 0) hκ dX6_canBe_144 (by decide) ?_
                      refine c_retz hκ hr dX6_canBe_145 (by first | exact Or.inl rfl | exact Or.inr rfl | assumption) ?_
                      exact ⟨Tz0 (fun z => canC_iff.mp z k i x y hx hy (Or.inr ⟨⟨q5.mp c120, p5.mp c110, hlt.mpr (Int32.not_le.mp c132)⟩, hbk, i141⟩)), rfl⟩
          refine x_iload hκ dX6_canBe_26 rfl ?_
          refine x_aload_n hκ dX6_canBe_28 rfl ?_
          refine c_callF  hκ (mJ2_size hl) (by omega) (by decide) vX6_18_J2 fJ2_size kJ2 (by exact hl.1) rfl (Nat.le_of_ble_eq_true rfl) dX6_canBe_29 (jIr (fun r29 h29 => ?_))
          subst h29
          refine x_icmp_ge (tgt := 152) hκ dX6_canBe_34 (by decide) (fun c34 => ?_) (fun c34 => ?_)
          · -- X6_canBe 34T
            have i34 := c34
            simp (disch := omega) only [i32_lt, i32_le, i32_eq, Int32.reduceToInt, nI_toInt] at i34
            omega
          · -- X6_canBe 34F
            have i34 := c34
            simp (disch := omega) only [i32_lt, i32_le, i32_eq, Int32.reduceToInt, nI_toInt] at i34
            refine x_aload_n hκ dX6_canBe_37 rfl ?_
            refine x_aload_n hκ dX6_canBe_38 rfl ?_
            refine c_callV  hκ (mX6_isTrue (d := 0) hk hb ka p3) (by omega) (by decide) wX6_28 aX6_isTrue kX6 (by exact hk) rfl (Nat.le_of_ble_eq_true rfl) dX6_canBe_39 (jIr (fun r39 h39 => ?_))
            refine x_if_eq (tgt := 152) hκ dX6_canBe_42 (by decide) (fun c42 => ?_) (fun c42 => ?_)
            · -- X6_canBe 42T
              have i42 := h39.f c42
              try simp only [Int32.reduceToInt] at i42
              exact next i o5 o6 k5 k6 (fun i' y' hy' z => by rcases z with z | z; exact i42 z.2.2; exact i42 z.2.1)
            · -- X6_canBe 42F
              have i42 := h39.t c42
              try simp only [Int32.reduceToInt] at i42
              refine x_aload_n hκ dX6_canBe_45 rfl ?_
              refine x_iload hκ dX6_canBe_46 rfl ?_
              refine c_callF  hκ (mJ2_get hl hil) (by omega) (by decide) vX6_24_J2 fJ2_get kJ2 (by exact hl.1) rfl (Nat.le_of_ble_eq_true rfl) dX6_canBe_48 (jRr (fun r48 h48 => ?_))
              subst h48
              refine c_cast hκ kX12 (by exact kb) q1033 dX6_canBe_53 ?_
              refine x_astore hκ dX6_canBe_56 (by rw [hL]; decide) rfl ?_
              refine x_aload_n hκ dX6_canBe_58 rfl ?_
              refine c_get hκ kX12 (by exact ka) 0 (by decide) (Or.inr ⟨_, q259⟩) rfl (by exact p1) dX6_canBe_59 ?_
              refine x_bipush (v := 102) hκ dX6_canBe_62 (by decide) ?_
              refine x_icmp_ne (tgt := 96) hκ dX6_canBe_64 (by decide) (fun c64 => ?_) (fun c64 => ?_)
              · -- X6_canBe 64T
                have i64 := c64
                simp (disch := omega) only [i32_lt, i32_le, i32_eq, Int32.reduceToInt, nI_toInt] at i64
                refine x_iconst (v := 0) hκ dX6_canBe_96 (by decide) ?_
                exact bars i42 0 (Tz0 (fun z => c64 (p4.mpr z.1.2.2)))
              · -- X6_canBe 64F
                have i64 := c64
                simp (disch := omega) only [i32_lt, i32_le, i32_eq, Int32.reduceToInt, nI_toInt] at i64
                refine x_aload hκ dX6_canBe_67 rfl ?_
                refine c_get hκ kX12 (by exact kb) 0 (by decide) (Or.inr ⟨_, q259⟩) rfl (by exact q1) dX6_canBe_69 ?_
                refine x_bipush (v := 102) hκ dX6_canBe_72 (by decide) ?_
                refine x_icmp_ne (tgt := 96) hκ dX6_canBe_74 (by decide) (fun c74 => ?_) (fun c74 => ?_)
                · -- X6_canBe 74T
                  have i74 := c74
                  simp (disch := omega) only [i32_lt, i32_le, i32_eq, Int32.reduceToInt, nI_toInt] at i74
                  refine x_iconst (v := 0) hκ dX6_canBe_96 (by decide) ?_
                  exact bars i42 0 (Tz0 (fun z => c74 (q4.mpr z.1.2.1)))
                · -- X6_canBe 74F
                  have i74 := c74
                  simp (disch := omega) only [i32_lt, i32_le, i32_eq, Int32.reduceToInt, nI_toInt] at i74
                  refine x_iload hκ dX6_canBe_77 rfl ?_
                  refine x_iload_n hκ dX6_canBe_79 rfl ?_
                  refine x_icmp_eq (tgt := 96) hκ dX6_canBe_80 (by decide) (fun c80 => ?_) (fun c80 => ?_)
                  · -- X6_canBe 80T
                    have i80 := c80
                    simp (disch := omega) only [i32_lt, i32_le, i32_eq, Int32.reduceToInt, nI_toInt] at i80
                    refine x_iconst (v := 0) hκ dX6_canBe_96 (by decide) ?_
                    exact bars i42 0 (Tz0 (fun z => z.1.1 (by omega)))
                  · -- X6_canBe 80F
                    have i80 := c80
                    simp (disch := omega) only [i32_lt, i32_le, i32_eq, Int32.reduceToInt, nI_toInt] at i80
                    refine x_aload_n hκ dX6_canBe_83 rfl ?_
                    refine x_aload hκ dX6_canBe_84 rfl ?_
                    refine c_callV  hκ (mX6_isTrue (d := 0) hk hb kb q3) (by omega) (by decide) wX6_28 aX6_isTrue kX6 (by exact hk) rfl (Nat.le_of_ble_eq_true rfl) dX6_canBe_86 (jIr (fun r86 h86 => ?_))
                    refine x_if_eq (tgt := 96) hκ dX6_canBe_89 (by decide) (fun c89 => ?_) (fun c89 => ?_)
                    · -- X6_canBe 89T
                      have i89 := h86.f c89
                      try simp only [Int32.reduceToInt] at i89
                      refine x_iconst (v := 0) hκ dX6_canBe_96 (by decide) ?_
                      exact bars i42 0 (Tz0 (fun z => i89 z.2.1))
                    · -- X6_canBe 89F
                      have i89 := h86.t c89
                      try simp only [Int32.reduceToInt] at i89
                      refine x_iconst (v := 1) hκ dX6_canBe_92 (by decide) ?_
                      refine x_goto (tgt := 97) hκ dX6_canBe_93 (by decide) ?_
                      exact bars i42 1 (Tz1 ⟨⟨by omega, q4.mp c74, p4.mp c64⟩, i89, i42⟩)
      refine x_iload_n hκ dX6_canBe_2 rfl ?_
      refine x_aload_n hκ dX6_canBe_3 rfl ?_
      refine c_callF  hκ (mJ2_size hl) (by omega) (by decide) vX6_18_J2 fJ2_size kJ2 (by exact hl.1) rfl (Nat.le_of_ble_eq_true rfl) dX6_canBe_4 (jIr (fun r4 h4 => ?_))
      subst h4
      refine x_icmp_ge (tgt := 158) hκ dX6_canBe_9 (by decide) (fun c9 => ?_) (fun c9 => ?_)
      · -- X6_canBe 9T
        have i9 := c9
        simp (disch := omega) only [i32_lt, i32_le, i32_eq, Int32.reduceToInt, nI_toInt] at i9
        omega
      · -- X6_canBe 9F
        have i9 := c9
        simp (disch := omega) only [i32_lt, i32_le, i32_eq, Int32.reduceToInt, nI_toInt] at i9
        refine x_aload_n hκ dX6_canBe_12 rfl ?_
        refine x_iload_n hκ dX6_canBe_13 rfl ?_
        refine c_callF  hκ (mJ2_get hl hkl) (by omega) (by decide) vX6_24_J2 fJ2_get kJ2 (by exact hl.1) rfl (Nat.le_of_ble_eq_true rfl) dX6_canBe_14 (jRr (fun r14 h14 => ?_))
        subst h14
        refine c_cast hκ kX12 (by exact ka) q1033 dX6_canBe_19 ?_
        refine x_astore_n hκ dX6_canBe_22 (by rw [hL]; decide) rfl ?_
        refine x_iconst (v := 0) hκ dX6_canBe_23 (by decide) ?_
        refine x_istore hκ dX6_canBe_24 (by rw [hL]; decide) rfl ?_
        exact inner al.length 0 _ _ rfl l6 (by omega) (fun i' y hi' => absurd hi' (Nat.not_lt_zero _))
  refine x_iconst (v := 0) hκ dX6_canBe_0 (by decide) ?_
  refine x_istore_n hκ dX6_canBe_1 (by rw [hL]; decide) rfl ?_
  exact outer al.length 0 none none none none rfl rfl rfl (by omega) (fun k' i x y hk' => absurd hk' (Nat.not_lt_zero _))
theorem mX0_acting {E : gE} {L : Nat → Nat} {γ : Gh} {σ : TS} {cn : Int32} {s : CSt} (h : CWc E L γ σ cn s) {c : Int32} (hb : s.2.1 (L 47) 0 = .int c) {a : Nat} {R : Rl} {e1 : Nat → Nat} (hR : RuA E (vZ γ) s a R e1) (hl6 : R.length ≤ 6) : CMg E s yX0_acting cX0_acting 6 (some .int) 203 0 0 [.ref (L 0), .ref a] (qI (fun z s' => ActR (tc (gth (allC R) []) c) R 0 0 z ∧ s' = s)) := by
  obtain ⟨h1, h2, l1, l2, a1, a2, e2, g1, g2, g3, g4, g5, g6, g7, g8, g9, g10⟩ := hR
  refine CMg.of (by decide) (Nat.le_of_ble_eq_true rfl) ?_
  rintro κ rfl hL hκ hr
  have loop : ∀ (m r : Nat) (t z : Int32) (o5 : Option Value), loOk [some (.ref (L 0)), some (.ref a), some (.int t), some (.int z), some (.int (nI r)), o5] 5 = true → r ≤ R.length → R.length - r < m → ((z = 0 ∧ ∀ y, ActR (tc (gth (allC R) []) c) (R.drop r) r t y → ActR (tc (gth (allC R) []) c) R 0 0 y) ∨ (¬ z = 0 ∧ ActR (tc (gth (allC R) []) c) R 0 0 t)) → X κ (sG (kE κ) s) 0 0 7 [some (.ref (L 0)), some (.ref a), some (.int t), some (.int z), some (.int (nI r)), o5] [] := by
    intro m
    induction m with
    | zero => intro r t z o5 _ h1 h2; exact absurd h2 (Nat.not_lt_zero _)
    | succ m ih =>
      intro r t z o5 lo5 hr9 hm hz
      have dr : ∀ h : r < R.length, R.drop r = R[r] :: R.drop (r + 1) := fun h => List.drop_eq_getElem_cons h
      refine x_iload hκ dX0_acting_7 rfl ?_
      refine x_aload_n hκ dX0_acting_9 rfl ?_
      refine c_get hκ kX4 (by exact h2) 0 (by decide) (Or.inr ⟨_, q162⟩) rfl (by exact g1) dX0_acting_10 ?_
      refine c_callF  hκ (mJ2_size g7) (by omega) (by decide) vX0_100_J2 fJ2_size kJ2 (by exact g7.1) rfl (Nat.le_of_ble_eq_true rfl) dX0_acting_13 (jIr (fun r13 h13 => ?_))
      subst h13
      refine x_icmp_ge (tgt := 77) hκ dX0_acting_18 (by decide) (fun c18 => ?_) (fun c18 => ?_)
      · -- X0_acting 18T
        have i18 := c18
        simp (disch := omega) only [i32_lt, i32_le, i32_eq, Int32.reduceToInt, nI_toInt] at i18
        refine x_iload_n hκ dX0_acting_77 rfl ?_
        refine c_reti hκ hr dX0_acting_78 ?_
        obtain rfl : r = R.length := by omega
        refine ⟨?_, rfl⟩
        rcases hz with z1 | z1
        · exact z1.2 t (by rw [List.drop_length]; rfl)
        · exact z1.2
      · -- X0_acting 18F
        have i18 := c18
        simp (disch := omega) only [i32_lt, i32_le, i32_eq, Int32.reduceToInt, nI_toInt] at i18
        refine x_iload_n hκ dX0_acting_21 rfl ?_
        refine x_if_ne (tgt := 77) hκ dX0_acting_22 (by decide) (fun c22 => ?_) (fun c22 => ?_)
        · -- X0_acting 22T
          have i22 := c22
          simp (disch := omega) only [i32_lt, i32_le, i32_eq, Int32.reduceToInt, nI_toInt] at i22
          refine x_iload_n hκ dX0_acting_77 rfl ?_
          refine c_reti hκ hr dX0_acting_78 ?_
          refine ⟨?_, rfl⟩
          rcases hz with z1 | z1
          · exact absurd z1.1 c22
          · exact z1.2
        · -- X0_acting 22F
          have i22 := c22
          simp (disch := omega) only [i32_lt, i32_le, i32_eq, Int32.reduceToInt, nI_toInt] at i22
          have hrl : r < R.length := by omega
          have hq : R[r]? = some R[r] := List.getElem?_eq_getElem hrl
          have hru := g9 r _ hq
          obtain ⟨u1, u2, te, b1, b2, w1, w2, w3, w4, w5, ⟨f, w6, w7⟩, -⟩ := id hru
          have hz : ∀ y, ActR (tc (gth (allC R) []) c) (R.drop r) r t y → ActR (tc (gth (allC R) []) c) R 0 0 y := by rcases hz with z1 | z1; exact z1.2; exact absurd c22 z1.1
          rw [dr hrl] at hz
          refine x_aload_n hκ dX0_acting_25 rfl ?_
          refine c_get hκ kX4 (by exact h2) 0 (by decide) (Or.inr ⟨_, q162⟩) rfl (by exact g1) dX0_acting_26 ?_
          refine x_iload hκ dX0_acting_29 rfl ?_
          refine c_callF  hκ (mJ2_get g7 hrl) (by omega) (by decide) vX0_105_J2 fJ2_get kJ2 (by exact g7.1) rfl (Nat.le_of_ble_eq_true rfl) dX0_acting_31 (jRr (fun r31 h31 => ?_))
          subst h31
          refine c_cast hκ kX9 (by exact u2) q174 dX0_acting_36 ?_
          refine x_astore hκ dX0_acting_39 (by rw [hL]; decide) rfl ?_
          refine x_aload hκ dX0_acting_41 rfl ?_
          refine c_get hκ kX9 (by exact u2) 0 (by decide) (Or.inr ⟨_, q180⟩) rfl (by exact w1) dX0_acting_43 ?_
          refine x_aload_n hκ dX0_acting_46 rfl ?_
          refine c_get hκ kX0 (by (try simp (disch := omega) only [oS_k, oS_o, oS_a, oS_f, oS_n, aS_k, aS_o, aS_a, aS_f, aS_n, fS_k, fS_o, fS_a, fS_f, fS_n, nO_k, nO_o, nO_a, nA_k, nA_o, nA_a, nA_f, nA_n, nF_k, nF_o, nF_a, nF_f, nF_n, Nat.reduceEqDiff, ↓reduceIte, and_true, true_and, and_false, false_and, reduceCtorEq, xl_0, xl_1, xl_2, nI_add, nI_1, nm_2, nm_3, nm_4, nm_6, nm_7, nm_8, nm_12, nm_16, na_0, na_2, na_3, na_4, na_5, na_6, na_7, na_8, nm_p, nm_m, nI_clamp]); first | done | assumption | exact h.sc.k (by decide) | exact h.sc.kb (by omega) | exact h.sc.kbt (by omega) | exact h.sc.kbh (by omega) | exact h.sc.kba (by omega) | exact h.sc.kt (by omega) | exact h.sc.ktl (by omega) | exact h.sc.ks (by omega) | rfl) 20 (by decide) (Or.inl q650) rfl (by (try simp (disch := omega) only [oS_k, oS_o, oS_a, oS_f, oS_n, aS_k, aS_o, aS_a, aS_f, aS_n, fS_k, fS_o, fS_a, fS_f, fS_n, nO_k, nO_o, nO_a, nA_k, nA_o, nA_a, nA_f, nA_n, nF_k, nF_o, nF_a, nF_f, nF_n, Nat.reduceEqDiff, ↓reduceIte, and_true, true_and, and_false, false_and, reduceCtorEq, xl_0, xl_1, xl_2, nI_add, nI_1, nm_2, nm_3, nm_4, nm_6, nm_7, nm_8, nm_12, nm_16, na_0, na_2, na_3, na_4, na_5, na_6, na_7, na_8, nm_p, nm_m, nI_clamp]); first | exact h.sc.o (by decide) rfl | exact h.sc.ob1 (by omega) | exact h.sc.ob2 (by omega) | exact h.sc.ob3 (by omega) | exact h.sc.ot (by omega) | exact h.sc.fb (by omega) | exact h.sc.ft (by omega) (by omega) | exact h.sc.fs (by omega) | exact h.p.1 | exact h.p.2.2.2.2.1 | exact h.p.2.2.2.2.2.1 | exact h.p.2.2.2.2.2.2.1 | exact h.p.2.2.2.2.2.2.2.1 | exact h.p.2.2.2.2.2.2.2.2.1 | exact rfl) dX0_acting_47 ?_
          refine c_test hκ itX0 (RlA.case (h.sc.k (r := 47) (by decide)) hb w7) (by omega) (Nat.le_of_ble_eq_true rfl) dX0_acting_50 ?_
          intro r50 h50
          refine x_if_eq (tgt := 71) hκ dX0_acting_55 (by decide) (fun c55 => ?_) (fun c55 => ?_)
          · -- X0_acting 55T
            have i55 := h50.f c55
            try simp only [Int32.reduceToInt] at i55
            refine x_iincN (y := 1) hκ dX0_acting_71 (by decide) rfl (by rw [hL]; decide) rfl (by (try simp (disch := omega) only [oS_k, oS_o, oS_a, oS_f, oS_n, aS_k, aS_o, aS_a, aS_f, aS_n, fS_k, fS_o, fS_a, fS_f, fS_n, nO_k, nO_o, nO_a, nA_k, nA_o, nA_a, nA_f, nA_n, nF_k, nF_o, nF_a, nF_f, nF_n, Nat.reduceEqDiff, ↓reduceIte, and_true, true_and, and_false, false_and, reduceCtorEq, xl_0, xl_1, xl_2, nI_add, nI_1, nm_2, nm_3, nm_4, nm_6, nm_7, nm_8, nm_12, nm_16, na_0, na_2, na_3, na_4, na_5, na_6, na_7, na_8, nm_p, nm_m, nI_clamp]); first | exact h.sc.o (by decide) rfl | exact h.sc.ob1 (by omega) | exact h.sc.ob2 (by omega) | exact h.sc.ob3 (by omega) | exact h.sc.ot (by omega) | exact h.sc.fb (by omega) | exact h.sc.ft (by omega) (by omega) | exact h.sc.fs (by omega) | exact h.p.1 | exact h.p.2.2.2.2.1 | exact h.p.2.2.2.2.2.1 | exact h.p.2.2.2.2.2.2.1 | exact h.p.2.2.2.2.2.2.2.1 | exact h.p.2.2.2.2.2.2.2.2.1 | exact rfl) ?_
            refine x_goto (tgt := 7) hκ dX0_acting_74 (by decide) ?_
            exact ih (r + 1) t z _ rfl (by omega) (by omega) (Or.inl ⟨c22, fun y hy => hz y ⟨fun w => absurd w i55, fun _ => hy⟩⟩)
          · -- X0_acting 55F
            have i55 := h50.t c55
            try simp only [Int32.reduceToInt] at i55
            refine x_iload_n hκ dX0_acting_58 rfl ?_
            refine x_iconst (v := 1) hκ dX0_acting_59 (by decide) ?_
            refine x_iload hκ dX0_acting_60 rfl ?_
            refine x_ishl hκ dX0_acting_62 ?_
            refine x_ior hκ dX0_acting_63 ?_
            refine x_istore_n hκ dX0_acting_64 (by rw [hL]; decide) rfl ?_
            refine x_aload hκ dX0_acting_65 rfl ?_
            refine c_callV  hκ (mX9_stops (d := 0) hru) (by omega) (by decide) wX0_417 aX9_stops kX9 (by exact u2) rfl (Nat.le_of_ble_eq_true rfl) dX0_acting_67 (jIr (fun r67 h67 => ?_))
            refine x_istore_n hκ dX0_acting_70 (by rw [hL]; decide) rfl ?_
            refine x_iincN (y := 1) hκ dX0_acting_71 (by decide) rfl (by rw [hL]; decide) rfl (by (try simp (disch := omega) only [oS_k, oS_o, oS_a, oS_f, oS_n, aS_k, aS_o, aS_a, aS_f, aS_n, fS_k, fS_o, fS_a, fS_f, fS_n, nO_k, nO_o, nO_a, nA_k, nA_o, nA_a, nA_f, nA_n, nF_k, nF_o, nF_a, nF_f, nF_n, Nat.reduceEqDiff, ↓reduceIte, and_true, true_and, and_false, false_and, reduceCtorEq, xl_0, xl_1, xl_2, nI_add, nI_1, nm_2, nm_3, nm_4, nm_6, nm_7, nm_8, nm_12, nm_16, na_0, na_2, na_3, na_4, na_5, na_6, na_7, na_8, nm_p, nm_m, nI_clamp]); first | exact h.sc.o (by decide) rfl | exact h.sc.ob1 (by omega) | exact h.sc.ob2 (by omega) | exact h.sc.ob3 (by omega) | exact h.sc.ot (by omega) | exact h.sc.fb (by omega) | exact h.sc.ft (by omega) (by omega) | exact h.sc.fs (by omega) | exact h.p.1 | exact h.p.2.2.2.2.1 | exact h.p.2.2.2.2.2.1 | exact h.p.2.2.2.2.2.2.1 | exact h.p.2.2.2.2.2.2.2.1 | exact h.p.2.2.2.2.2.2.2.2.1 | exact rfl) ?_
            refine x_goto (tgt := 7) hκ dX0_acting_74 (by decide) ?_
            by_cases hst : (10 : Int32) ∈ R[r].2
            · exact ih (r + 1) _ r67 _ rfl (by omega) (by omega) (Or.inr ⟨fun w => h67.f w hst, hz _ ⟨fun _ => by rw [if_pos hst], fun w => absurd i55 w⟩⟩)
            · refine ih (r + 1) _ r67 _ rfl (by omega) (by omega) (Or.inl ⟨?_, fun y hy => hz y ⟨fun _ => by rw [if_neg hst]; exact hy, fun w => absurd i55 w⟩⟩)
              rcases h67 with w | w
              · exact absurd w.2 hst
              · exact w.1
  refine x_iconst (v := 0) hκ dX0_acting_0 (by decide) ?_
  refine x_istore_n hκ dX0_acting_1 (by rw [hL]; decide) rfl ?_
  refine x_iconst (v := 0) hκ dX0_acting_2 (by decide) ?_
  refine x_istore_n hκ dX0_acting_3 (by rw [hL]; decide) rfl ?_
  refine x_iconst (v := 0) hκ dX0_acting_4 (by decide) ?_
  refine x_istore hκ dX0_acting_5 (by rw [hL]; decide) rfl ?_
  exact loop (R.length + 1) 0 0 0 none rfl (by omega) (by omega) (Or.inl ⟨rfl, fun y hy => by rw [List.drop_zero] at hy; exact hy⟩)
theorem CWc.tried {E : gE} {L : Nat → Nat} {γ : Gh} {σ : TS} {cn : Int32} {s : CSt} (h : CWc E L γ σ cn s) (v : Int32) : CWc E L γ σ cn (oS s (L 47) 0 (.int v)) := by
  obtain ⟨a1, a2, a3, a4, a5, a6, a7⟩ := h.at (r := 47) (by omega) (Kp.oS (s := s) (k := 0) (v := .int v) rfl)
  exact ⟨h.sc.oS (by omega) rfl (by omega), a1 (by omega) (by omega), a2 (by omega), a3 (by omega) (by omega), a4 (by omega), a5 (by omega) (by omega), a6 (by omega), a7, h.x⟩
theorem mX0_leastFor {E : gE} {L : Nat → Nat} {γ : Gh} {σ : TS} {cn : Int32} {s : CSt} (h : CWc E L γ σ cn s) {a : Nat} {R : Rl} {e1 : Nat → Nat} (hR : RuA E (vZ γ) s a R e1) (hl6 : R.length ≤ 6) (hl9 : (gth (allC R) []).length ≤ 180) {w : Int32} : CMg E s yX0_leastFor cX0_leastFor 5 (some .int) 205 0 0 [.ref (L 0), .ref a, .int w] (qI (fun z s' => LeastR R w z ∧ CWc E L γ σ cn s')) := by
  refine CMg.of (by decide) (Nat.le_of_ble_eq_true rfl) ?_
  rintro κ rfl hL hκ hr
  generalize hga : gth (allC R) [] = al at hl9
  have ru : ∀ s1 : CSt, RuA (kE κ) (vZ γ) s1 a R e1 → s1.1 a = 6 ∧ ∃ l1 l2 a1 a2 : Nat, ∃ e2 : Nat → Nat, s1.2.1 a 0 = .ref l1 ∧ s1.2.1 a 1 = .ref l2 ∧ Lst (kE κ) s1 l2 a2 al.length e2 ∧ ∀ (k : Nat) (c : Int32), al[k]? = some c → AtA (vZ γ) s1 (e2 k) k c := by
    rintro s1 ⟨h1, h2, l1, l2, a1, a2, e2, g1, g2, g3, g4, g5, g6, g7, g8, g9, g10⟩
    rw [hga] at g8 g10
    exact ⟨h2, l1, l2, a1, a2, e2, g1, g2, g8, g10⟩
  have hnL : ∀ b, vZ γ b → ¬ b = L 47 := fun b hb z => h.x.1 47 (by decide) (by rw [← z]; exact hb)
  have loop : al.length ≤ 10 → ∀ (m k : Nat) (s1 : CSt) (o : Option Value), loOk [some (.ref (L 0)), some (.ref a), some (.int w), some (.int (nI k)), o] 4 = true → CWc (kE κ) L γ σ cn s1 → RuA (kE κ) (vZ γ) s1 a R e1 → k ≤ 2 ^ al.length → 2 ^ al.length - k < m → (∀ d, d < k → ¬ goodC R al w d) → X κ (sG (kE κ) s1) 0 0 19 [some (.ref (L 0)), some (.ref a), some (.int w), some (.int (nI k)), o] [] := by
    intro h10 m
    have hs := shl_1 ⟨al.length, by omega⟩
    have hp := pow_10 ⟨al.length, by omega⟩
    simp only at hs hp
    induction m with
    | zero => intro k s1 o _ _ _ h1 h2; exact absurd h2 (Nat.not_lt_zero _)
    | succ m ih =>
      intro k s1 o hlo h hR hk hm hno
      obtain ⟨h6, l1, l2, a1, a2, e2, g1, g2, g3, g4⟩ := ru s1 hR
      have hT := h.tried (nI k)
      have hkp : Kp (fun b => b = L 47) s1 (oS s1 (L 47) 0 (.int (nI k))) := Kp.oS rfl
      have hR2 : RuA (kE κ) (vZ γ) (oS s1 (L 47) 0 (.int (nI k))) a R e1 := hR.kp hkp hnL (fun _ z => z)
      have hb2 : (oS s1 (L 47) 0 (.int (nI k))).2.1 (L 47) 0 = .int (nI k) := by rw [oS_o, if_pos ⟨rfl, rfl⟩]
      obtain ⟨h6', l1', l2', a1', a2', e2', g1', g2', g3', g4'⟩ := ru _ hR2
      refine x_iload_n hκ dX0_leastFor_19 rfl ?_
      refine x_iconst (v := 1) hκ dX0_leastFor_20 (by decide) ?_
      refine x_aload_n hκ dX0_leastFor_21 rfl ?_
      refine c_get hκ kX4 (by exact h6) 1 (by decide) (Or.inr ⟨_, q164⟩) rfl (by exact g2) dX0_leastFor_22 ?_
      refine c_callF  hκ (mJ2_size g3) (by omega) (by decide) vX0_100_J2 fJ2_size kJ2 (by exact g3.1) rfl (Nat.le_of_ble_eq_true rfl) dX0_leastFor_25 (jIr (fun r25 h25 => ?_))
      subst h25
      refine x_ishl hκ dX0_leastFor_30 ?_
      rw [hs]
      refine x_icmp_ge (tgt := 91) hκ dX0_leastFor_31 (by decide) (fun c31 => ?_) (fun c31 => ?_)
      · -- X0_leastFor 31T
        have i31 := c31
        simp (disch := omega) only [i32_lt, i32_le, i32_eq, Int32.reduceToInt, nI_toInt] at i31
        refine x_bipush (v := (-4)) hκ dX0_leastFor_91 (by decide) ?_
        refine c_reti hκ hr dX0_leastFor_93 ?_
        refine ⟨?_, h⟩
        rw [LeastR, hga, if_neg (by omega)]
        exact Or.inr ⟨fun d hd => hno d (by omega), rfl⟩
      · -- X0_leastFor 31F
        have i31 := c31
        simp (disch := omega) only [i32_lt, i32_le, i32_eq, Int32.reduceToInt, nI_toInt] at i31
        refine x_aload_n hκ dX0_leastFor_34 rfl ?_
        refine c_get hκ kX0 (by (try simp (disch := omega) only [oS_k, oS_o, oS_a, oS_f, oS_n, aS_k, aS_o, aS_a, aS_f, aS_n, fS_k, fS_o, fS_a, fS_f, fS_n, nO_k, nO_o, nO_a, nA_k, nA_o, nA_a, nA_f, nA_n, nF_k, nF_o, nF_a, nF_f, nF_n, Nat.reduceEqDiff, ↓reduceIte, and_true, true_and, and_false, false_and, reduceCtorEq, xl_0, xl_1, xl_2, nI_add, nI_1, nm_2, nm_3, nm_4, nm_6, nm_7, nm_8, nm_12, nm_16, na_0, na_2, na_3, na_4, na_5, na_6, na_7, na_8, nm_p, nm_m, nI_clamp]); first | done | assumption | exact h.sc.k (by decide) | exact h.sc.kb (by omega) | exact h.sc.kbt (by omega) | exact h.sc.kbh (by omega) | exact h.sc.kba (by omega) | exact h.sc.kt (by omega) | exact h.sc.ktl (by omega) | exact h.sc.ks (by omega) | rfl) 20 (by decide) (Or.inl q650) rfl (by (try simp (disch := omega) only [oS_k, oS_o, oS_a, oS_f, oS_n, aS_k, aS_o, aS_a, aS_f, aS_n, fS_k, fS_o, fS_a, fS_f, fS_n, nO_k, nO_o, nO_a, nA_k, nA_o, nA_a, nA_f, nA_n, nF_k, nF_o, nF_a, nF_f, nF_n, Nat.reduceEqDiff, ↓reduceIte, and_true, true_and, and_false, false_and, reduceCtorEq, xl_0, xl_1, xl_2, nI_add, nI_1, nm_2, nm_3, nm_4, nm_6, nm_7, nm_8, nm_12, nm_16, na_0, na_2, na_3, na_4, na_5, na_6, na_7, na_8, nm_p, nm_m, nI_clamp]); first | exact h.sc.o (by decide) rfl | exact h.sc.ob1 (by omega) | exact h.sc.ob2 (by omega) | exact h.sc.ob3 (by omega) | exact h.sc.ot (by omega) | exact h.sc.fb (by omega) | exact h.sc.ft (by omega) (by omega) | exact h.sc.fs (by omega) | exact h.p.1 | exact h.p.2.2.2.2.1 | exact h.p.2.2.2.2.2.1 | exact h.p.2.2.2.2.2.2.1 | exact h.p.2.2.2.2.2.2.2.1 | exact h.p.2.2.2.2.2.2.2.2.1 | exact rfl) dX0_leastFor_35 ?_
        refine x_iload_n hκ dX0_leastFor_38 rfl ?_
        refine c_put hκ kX6 (by (try simp (disch := omega) only [oS_k, oS_o, oS_a, oS_f, oS_n, aS_k, aS_o, aS_a, aS_f, aS_n, fS_k, fS_o, fS_a, fS_f, fS_n, nO_k, nO_o, nO_a, nA_k, nA_o, nA_a, nA_f, nA_n, nF_k, nF_o, nF_a, nF_f, nF_n, Nat.reduceEqDiff, ↓reduceIte, and_true, true_and, and_false, false_and, reduceCtorEq, xl_0, xl_1, xl_2, nI_add, nI_1, nm_2, nm_3, nm_4, nm_6, nm_7, nm_8, nm_12, nm_16, na_0, na_2, na_3, na_4, na_5, na_6, na_7, na_8, nm_p, nm_m, nI_clamp]); first | done | assumption | exact h.sc.k (by decide) | exact h.sc.kb (by omega) | exact h.sc.kbt (by omega) | exact h.sc.kbh (by omega) | exact h.sc.kba (by omega) | exact h.sc.kt (by omega) | exact h.sc.ktl (by omega) | exact h.sc.ks (by omega) | rfl) 0 (by decide) (Or.inr ⟨_, q613⟩) rfl rfl (by rfl) (by rfl) dX0_leastFor_39 ?_
        refine x_aload_n hκ dX0_leastFor_42 rfl ?_
        refine c_get hκ kX0 (by exact (hT.sc.k (r := 0) (by decide))) 20 (by decide) (Or.inl q650) rfl (by exact (hT.sc.o (r := 0) (k := 20) (by decide) rfl)) dX0_leastFor_43 ?_
        refine x_aload_n hκ dX0_leastFor_46 rfl ?_
        refine c_get hκ kX4 (by exact h6') 1 (by decide) (Or.inr ⟨_, q164⟩) rfl (by exact g2') dX0_leastFor_47 ?_
        refine c_callV  hκ (mX6_canBe (hT.sc.k (r := 47) (by decide)) hb2 g3' g4' hl9) (by omega) (by decide) wX0_422 aX6_canBe kX6 (by exact (hT.sc.k (r := 47) (by decide))) rfl (Nat.le_of_ble_eq_true rfl) dX0_leastFor_50 (jIr (fun r50 h50 => ?_))
        refine x_if_eq (tgt := 85) hκ dX0_leastFor_53 (by decide) (fun c53 => ?_) (fun c53 => ?_)
        · -- X0_leastFor 53T
          have i53 := h50.f c53
          try simp only [Int32.reduceToInt] at i53
          refine x_iincN (y := 1) hκ dX0_leastFor_85 (by decide) rfl (by rw [hL]; decide) rfl (by (try simp (disch := omega) only [oS_k, oS_o, oS_a, oS_f, oS_n, aS_k, aS_o, aS_a, aS_f, aS_n, fS_k, fS_o, fS_a, fS_f, fS_n, nO_k, nO_o, nO_a, nA_k, nA_o, nA_a, nA_f, nA_n, nF_k, nF_o, nF_a, nF_f, nF_n, Nat.reduceEqDiff, ↓reduceIte, and_true, true_and, and_false, false_and, reduceCtorEq, xl_0, xl_1, xl_2, nI_add, nI_1, nm_2, nm_3, nm_4, nm_6, nm_7, nm_8, nm_12, nm_16, na_0, na_2, na_3, na_4, na_5, na_6, na_7, na_8, nm_p, nm_m, nI_clamp]); first | exact h.sc.o (by decide) rfl | exact h.sc.ob1 (by omega) | exact h.sc.ob2 (by omega) | exact h.sc.ob3 (by omega) | exact h.sc.ot (by omega) | exact h.sc.fb (by omega) | exact h.sc.ft (by omega) (by omega) | exact h.sc.fs (by omega) | exact h.p.1 | exact h.p.2.2.2.2.1 | exact h.p.2.2.2.2.2.1 | exact h.p.2.2.2.2.2.2.1 | exact h.p.2.2.2.2.2.2.2.1 | exact h.p.2.2.2.2.2.2.2.2.1 | exact rfl) ?_
          refine x_goto (tgt := 19) hκ dX0_leastFor_88 (by decide) ?_
          exact ih (k + 1) _ _ hlo hT hR2 (by omega) (by omega) (fun d hd => by
            rcases (by omega : d < k ∨ d = k) with z | z
            · exact hno d z
            · subst z; exact fun y => i53 y.1)
        · -- X0_leastFor 53F
          have i53 := h50.t c53
          try simp only [Int32.reduceToInt] at i53
          refine x_aload_n hκ dX0_leastFor_56 rfl ?_
          refine x_aload_n hκ dX0_leastFor_57 rfl ?_
          refine c_callV  hκ (mX0_acting hT hb2 hR2 hl6) (by omega) (by decide) wX0_426 aX0_acting kX0 (by exact (hT.sc.k (r := 0) (by decide))) rfl (Nat.le_of_ble_eq_true rfl) dX0_leastFor_58 (jIr (fun r58 h58 => ?_))
          rw [hga] at h58
          refine x_istore hκ dX0_leastFor_61 (by rw [hL]; decide) rfl ?_
          refine x_iload_n hκ dX0_leastFor_63 rfl ?_
          refine x_if_ne (tgt := 75) hκ dX0_leastFor_64 (by decide) (fun c64 => ?_) (fun c64 => ?_)
          · -- X0_leastFor 64T
            have i64 := c64
            simp (disch := omega) only [i32_lt, i32_le, i32_eq, Int32.reduceToInt, nI_toInt] at i64
            refine x_iload hκ dX0_leastFor_75 rfl ?_
            refine x_iload_n hκ dX0_leastFor_77 rfl ?_
            refine x_iand hκ dX0_leastFor_78 ?_
            refine x_iload_n hκ dX0_leastFor_79 rfl ?_
            refine x_icmp_ne (tgt := 85) hκ dX0_leastFor_80 (by decide) (fun c80 => ?_) (fun c80 => ?_)
            · -- X0_leastFor 80T
              have i80 := c80
              simp (disch := omega) only [i32_lt, i32_le, i32_eq, Int32.reduceToInt, nI_toInt] at i80
              refine x_iincN (y := 1) hκ dX0_leastFor_85 (by decide) rfl (by rw [hL]; decide) rfl (by (try simp (disch := omega) only [oS_k, oS_o, oS_a, oS_f, oS_n, aS_k, aS_o, aS_a, aS_f, aS_n, fS_k, fS_o, fS_a, fS_f, fS_n, nO_k, nO_o, nO_a, nA_k, nA_o, nA_a, nA_f, nA_n, nF_k, nF_o, nF_a, nF_f, nF_n, Nat.reduceEqDiff, ↓reduceIte, and_true, true_and, and_false, false_and, reduceCtorEq, xl_0, xl_1, xl_2, nI_add, nI_1, nm_2, nm_3, nm_4, nm_6, nm_7, nm_8, nm_12, nm_16, na_0, na_2, na_3, na_4, na_5, na_6, na_7, na_8, nm_p, nm_m, nI_clamp]); first | exact h.sc.o (by decide) rfl | exact h.sc.ob1 (by omega) | exact h.sc.ob2 (by omega) | exact h.sc.ob3 (by omega) | exact h.sc.ot (by omega) | exact h.sc.fb (by omega) | exact h.sc.ft (by omega) (by omega) | exact h.sc.fs (by omega) | exact h.p.1 | exact h.p.2.2.2.2.1 | exact h.p.2.2.2.2.2.1 | exact h.p.2.2.2.2.2.2.1 | exact h.p.2.2.2.2.2.2.2.1 | exact h.p.2.2.2.2.2.2.2.2.1 | exact rfl) ?_
              refine x_goto (tgt := 19) hκ dX0_leastFor_88 (by decide) ?_
              exact ih (k + 1) _ _ rfl hT hR2 (by omega) (by omega) (fun d hd => by
                rcases (by omega : d < k ∨ d = k) with z | z
                · exact hno d z
                · subst z
                  rintro ⟨-, y, y1, y2⟩
                  rw [if_neg c64, ActR.uniq _ _ _ _ _ y1 h58] at y2
                  exact c80 y2)
            · -- X0_leastFor 80F
              have i80 := c80
              simp (disch := omega) only [i32_lt, i32_le, i32_eq, Int32.reduceToInt, nI_toInt] at i80
              refine x_iload_n hκ dX0_leastFor_83 rfl ?_
              refine c_reti hκ hr dX0_leastFor_84 ?_
              refine ⟨?_, hT⟩
              rw [LeastR, hga, if_neg (by omega)]
              exact Or.inl ⟨k, by omega, ⟨i53, r58, h58, by rw [if_neg c64]; exact c80⟩, hno, rfl⟩
          · -- X0_leastFor 64F
            have i64 := c64
            simp (disch := omega) only [i32_lt, i32_le, i32_eq, Int32.reduceToInt, nI_toInt] at i64
            refine x_iload hκ dX0_leastFor_67 rfl ?_
            refine x_if_ne (tgt := 85) hκ dX0_leastFor_69 (by decide) (fun c69 => ?_) (fun c69 => ?_)
            · -- X0_leastFor 69T
              have i69 := c69
              simp (disch := omega) only [i32_lt, i32_le, i32_eq, Int32.reduceToInt, nI_toInt] at i69
              refine x_iincN (y := 1) hκ dX0_leastFor_85 (by decide) rfl (by rw [hL]; decide) rfl (by (try simp (disch := omega) only [oS_k, oS_o, oS_a, oS_f, oS_n, aS_k, aS_o, aS_a, aS_f, aS_n, fS_k, fS_o, fS_a, fS_f, fS_n, nO_k, nO_o, nO_a, nA_k, nA_o, nA_a, nA_f, nA_n, nF_k, nF_o, nF_a, nF_f, nF_n, Nat.reduceEqDiff, ↓reduceIte, and_true, true_and, and_false, false_and, reduceCtorEq, xl_0, xl_1, xl_2, nI_add, nI_1, nm_2, nm_3, nm_4, nm_6, nm_7, nm_8, nm_12, nm_16, na_0, na_2, na_3, na_4, na_5, na_6, na_7, na_8, nm_p, nm_m, nI_clamp]); first | exact h.sc.o (by decide) rfl | exact h.sc.ob1 (by omega) | exact h.sc.ob2 (by omega) | exact h.sc.ob3 (by omega) | exact h.sc.ot (by omega) | exact h.sc.fb (by omega) | exact h.sc.ft (by omega) (by omega) | exact h.sc.fs (by omega) | exact h.p.1 | exact h.p.2.2.2.2.1 | exact h.p.2.2.2.2.2.1 | exact h.p.2.2.2.2.2.2.1 | exact h.p.2.2.2.2.2.2.2.1 | exact h.p.2.2.2.2.2.2.2.2.1 | exact rfl) ?_
              refine x_goto (tgt := 19) hκ dX0_leastFor_88 (by decide) ?_
              exact ih (k + 1) _ _ rfl hT hR2 (by omega) (by omega) (fun d hd => by
                rcases (by omega : d < k ∨ d = k) with z | z
                · exact hno d z
                · subst z
                  rintro ⟨-, y, y1, y2⟩
                  rw [if_pos c64, ActR.uniq _ _ _ _ _ y1 h58] at y2
                  exact c69 y2)
            · -- X0_leastFor 69F
              have i69 := c69
              simp (disch := omega) only [i32_lt, i32_le, i32_eq, Int32.reduceToInt, nI_toInt] at i69
              refine x_goto (tgt := 83) hκ dX0_leastFor_72 (by decide) ?_
              refine x_iload_n hκ dX0_leastFor_83 rfl ?_
              refine c_reti hκ hr dX0_leastFor_84 ?_
              refine ⟨?_, hT⟩
              rw [LeastR, hga, if_neg (by omega)]
              exact Or.inl ⟨k, by omega, ⟨i53, r58, h58, by rw [if_pos c64]; exact c69⟩, hno, rfl⟩
  obtain ⟨h6, l1, l2, a1, a2, e2, g1, g2, g3, g4⟩ := ru s hR
  refine x_aload_n hκ dX0_leastFor_0 rfl ?_
  refine c_get hκ kX4 (by exact h6) 1 (by decide) (Or.inr ⟨_, q164⟩) rfl (by exact g2) dX0_leastFor_1 ?_
  refine c_callF  hκ (mJ2_size g3) (by omega) (by decide) vX0_100_J2 fJ2_size kJ2 (by exact g3.1) rfl (Nat.le_of_ble_eq_true rfl) dX0_leastFor_4 (jIr (fun r4 h4 => ?_))
  subst h4
  refine x_bipush (v := 10) hκ dX0_leastFor_9 (by decide) ?_
  refine x_icmp_le (tgt := 17) hκ dX0_leastFor_11 (by decide) (fun c11 => ?_) (fun c11 => ?_)
  · -- X0_leastFor 11T
    have i11 := c11
    simp (disch := omega) only [i32_lt, i32_le, i32_eq, Int32.reduceToInt, nI_toInt] at i11
    refine x_iconst (v := 0) hκ dX0_leastFor_17 (by decide) ?_
    refine x_istore_n hκ dX0_leastFor_18 (by rw [hL]; decide) rfl ?_
    exact loop (by omega) (2 ^ al.length + 1) 0 _ none rfl h hR (Nat.zero_le _) (Nat.lt_succ_self _) (fun d hd => absurd hd (Nat.not_lt_zero _))
  · -- X0_leastFor 11F
    have i11 := c11
    simp (disch := omega) only [i32_lt, i32_le, i32_eq, Int32.reduceToInt, nI_toInt] at i11
    refine x_bipush (v := (-3)) hκ dX0_leastFor_14 (by decide) ?_
    refine c_reti hκ hr dX0_leastFor_16 ?_
    refine ⟨?_, h⟩
    rw [LeastR, hga, if_pos (by omega)]
