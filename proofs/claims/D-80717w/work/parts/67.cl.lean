theorem vX0_105_J2 : IW RX0 105 RJ2 ⟨"java/util/List", "get", "(I)Ljava/lang/Object;"⟩ yJ2_get cJ2_get 2 (some (FieldType.object "java/lang/Object")) := ⟨lw_F q283 q286 q288 q72 q290, q285, q284, rfl, q289, q287, q276⟩
theorem fJ2_get : (⟨"java/util/List", "get", "(I)Ljava/lang/Object;"⟩ : MethodName).cls ≠ "java/lang/invoke/MethodHandle" ∧ (⟨"java/util/List", "get", "(I)Ljava/lang/Object;"⟩ : MethodName).cls ≠ "java/lang/invoke/VarHandle" ∧ (parseMethodDescriptor (⟨"java/util/List", "get", "(I)Ljava/lang/Object;"⟩ : MethodName).desc).map (fun d => d.parameters.length) = some 1 := by decide +kernel
theorem vX0_326_J2 : IW RX0 326 RJ2 ⟨"java/util/List", "isEmpty", "()Z"⟩ yJ2_isEmpty cJ2_isEmpty 1 (some .boolean) := ⟨lw_F q727 q730 q732 q72 q734, q729, q728, rfl, q733, q731, q276⟩
theorem fJ2_isEmpty : (⟨"java/util/List", "isEmpty", "()Z"⟩ : MethodName).cls ≠ "java/lang/invoke/MethodHandle" ∧ (⟨"java/util/List", "isEmpty", "()Z"⟩ : MethodName).cls ≠ "java/lang/invoke/VarHandle" ∧ (parseMethodDescriptor (⟨"java/util/List", "isEmpty", "()Z"⟩ : MethodName).desc).map (fun d => d.parameters.length) = some 0 := by decide +kernel
theorem wX0_380 : GoodIn lw_all (wsV RX0 380 RX0 yX0_isJunk (ws_ yX0_isJunk cX0_isJunk 7 (some .boolean))) := lw_V q937 q840 qs22 q69 q841
theorem aX0_isJunk : yX0_isJunk.cls = RX0 ∧ yX0_isJunk.cls ≠ "java/lang/invoke/MethodHandle" ∧ yX0_isJunk.cls ≠ "java/lang/invoke/VarHandle" ∧ (parseMethodDescriptor yX0_isJunk.desc).map (fun d => d.parameters.length) = some 1 := by decide +kernel
theorem wX0_408 : GoodIn lw_all (wsV RX0 408 RX16 yX16_hasWord (ws_ yX16_hasWord cX16_hasWord 2 (some .boolean))) := lw_V q842 q835 q836 q97 q837
theorem aX16_hasWord : yX16_hasWord.cls = RX16 ∧ yX16_hasWord.cls ≠ "java/lang/invoke/MethodHandle" ∧ yX16_hasWord.cls ≠ "java/lang/invoke/VarHandle" ∧ (parseMethodDescriptor yX16_hasWord.desc).map (fun d => d.parameters.length) = some 1 := by decide +kernel
/-! the component: letters -/
theorem mX16_hasWord {E : gE} {s : CSt} {a : Nat} (hk : s.1 a = 15) {x : Int32} (hw : s.2.1 a 3 = .int x) {i : Int32} : CMg E s yX16_hasWord cX16_hasWord 2 (some .boolean) 1 0 0 [.ref a, .int i] (qI (fun r s' => Tz ((x >>> (i &&& 31)) &&& 1 = 1) r ∧ s' = s)) := by
  refine CMg.of (by decide) (Nat.le_of_ble_eq_true rfl) ?_
  rintro κ rfl hL hκ hr
  refine x_aload_n hκ dX16_hasWord_0 rfl ?_
  refine c_get hκ kX16 (by exact hk) 3 (by decide) (Or.inl q751) rfl (by exact hw) dX16_hasWord_1 ?_
  refine x_iload_n hκ dX16_hasWord_4 rfl ?_
  refine x_ishr hκ dX16_hasWord_5 ?_
  refine x_iconst (v := 1) hκ dX16_hasWord_6 (by decide) ?_
  refine x_iand hκ dX16_hasWord_7 ?_
  refine x_iconst (v := 1) hκ dX16_hasWord_8 (by decide) ?_
  refine x_icmp_ne (tgt := 16) hκ dX16_hasWord_9 (by decide) (fun c9 => ?_) (fun c9 => ?_)
  · -- X16_hasWord 9T
    have i9 := c9
    simp (disch := omega) only [i32_lt, i32_le, i32_eq, Int32.reduceToInt, nI_toInt] at i9
    refine x_iconst (v := 0) hκ dX16_hasWord_16 (by decide) ?_
    refine c_retz hκ hr dX16_hasWord_17 (by first | exact Or.inl rfl | exact Or.inr rfl | assumption) ?_
    exact ⟨Tz0 c9, rfl⟩
  · -- X16_hasWord 9F
    have i9 := c9
    simp (disch := omega) only [i32_lt, i32_le, i32_eq, Int32.reduceToInt, nI_toInt] at i9
    refine x_iconst (v := 1) hκ dX16_hasWord_12 (by decide) ?_
    refine x_goto (tgt := 17) hκ dX16_hasWord_13 (by decide) ?_
    refine c_retz hκ hr dX16_hasWord_17 (by first | exact Or.inl rfl | exact Or.inr rfl | assumption) ?_
    exact ⟨Tz1 c9, rfl⟩
theorem mX16_isFor {E : gE} {s : CSt} {a : Nat} (hk : s.1 a = 15) {x : Int32} (hw : s.2.1 a 2 = .int x) {i : Int32} : CMg E s yX16_isFor cX16_isFor 2 (some .boolean) 1 0 0 [.ref a, .int i] (qI (fun r s' => Tz ((x >>> (i &&& 31)) &&& 1 = 1) r ∧ s' = s)) := by
  refine CMg.of (by decide) (Nat.le_of_ble_eq_true rfl) ?_
  rintro κ rfl hL hκ hr
  refine x_aload_n hκ dX16_isFor_0 rfl ?_
  refine c_get hκ kX16 (by exact hk) 2 (by decide) (Or.inl q749) rfl (by exact hw) dX16_isFor_1 ?_
  refine x_iload_n hκ dX16_isFor_4 rfl ?_
  refine x_ishr hκ dX16_isFor_5 ?_
  refine x_iconst (v := 1) hκ dX16_isFor_6 (by decide) ?_
  refine x_iand hκ dX16_isFor_7 ?_
  refine x_iconst (v := 1) hκ dX16_isFor_8 (by decide) ?_
  refine x_icmp_ne (tgt := 16) hκ dX16_isFor_9 (by decide) (fun c9 => ?_) (fun c9 => ?_)
  · -- X16_isFor 9T
    have i9 := c9
    simp (disch := omega) only [i32_lt, i32_le, i32_eq, Int32.reduceToInt, nI_toInt] at i9
    refine x_iconst (v := 0) hκ dX16_isFor_16 (by decide) ?_
    refine c_retz hκ hr dX16_isFor_17 (by first | exact Or.inl rfl | exact Or.inr rfl | assumption) ?_
    exact ⟨Tz0 c9, rfl⟩
  · -- X16_isFor 9F
    have i9 := c9
    simp (disch := omega) only [i32_lt, i32_le, i32_eq, Int32.reduceToInt, nI_toInt] at i9
    refine x_iconst (v := 1) hκ dX16_isFor_12 (by decide) ?_
    refine x_goto (tgt := 17) hκ dX16_isFor_13 (by decide) ?_
    refine c_retz hκ hr dX16_isFor_17 (by first | exact Or.inl rfl | exact Or.inr rfl | assumption) ?_
    exact ⟨Tz1 c9, rfl⟩
theorem CWc.lt {E : gE} {L : Nat → Nat} {γ : Gh} {σ : TS} {c : Int32} {s : CSt} (h : CWc E L γ σ c s) {k : Nat} (hk : k < vN γ) : LtA γ σ s k := h.l.2.2.2 k hk
theorem mX0_isJunk {E : gE} {L : Nat → Nat} {γ : Gh} {σ : TS} {c : Int32} {s : CSt} (h : CWc E L γ σ c s) {l : Nat} (hl : l < vN γ) : CMg E s yX0_isJunk cX0_isJunk 7 (some .boolean) 2 0 0 [.ref (L 0), .ref (vL γ l)] (qI (fun r s' => Tz (jk (σ.2 57) (σ.2 58) (σ.2 28 l)) r ∧ s' = s)) := by
  obtain ⟨l1, l2, l3, l4⟩ := h.lt hl
  refine CMg.of (by decide) (Nat.le_of_ble_eq_true rfl) ?_
  rintro κ rfl hL hκ hr
  have loop : ∀ (k i : Nat), i ≤ 12 → 12 - i < k → X κ (sG (kE κ) s) 0 0 24 [some (.ref (L 0)), some (.ref (vL γ l)), some (.long (jA (σ.2 57) (σ.2 58) (σ.2 28 l) i)), none, some (.long (jB (σ.2 57) (σ.2 58) (σ.2 28 l) i)), none, some (.int (nI i))] [] := by
    intro k
    induction k with
    | zero => intro i h1 h2; exact absurd h2 (Nat.not_lt_zero _)
    | succ k ih =>
      intro i hi hk
      have hn := nI_toInt (n := i) (by omega)
      have q1 := nI_clamp (n := i) (by omega)
      refine x_iload hκ dX0_isJunk_24 rfl ?_
      refine x_bipush (v := 12) hκ dX0_isJunk_26 (by decide) ?_
      refine x_icmp_ge (tgt := 101) hκ dX0_isJunk_28 (by decide) (fun c28 => ?_) (fun c28 => ?_)
      · -- X0_isJunk 28T
        have i28 := c28
        simp (disch := omega) only [i32_lt, i32_le, i32_eq, Int32.reduceToInt, nI_toInt] at i28
        refine x_lload_n hκ dX0_isJunk_101 rfl ?_
        refine x_lload hκ dX0_isJunk_102 rfl ?_
        refine x_lcmp hκ dX0_isJunk_104 ?_
        refine x_if_le (tgt := 112) hκ dX0_isJunk_105 (by decide) (fun c105 => ?_) (fun c105 => ?_)
        · -- X0_isJunk 105T
          have i105 := c105
          simp (disch := omega) only [i32_lt, i32_le, i32_eq, Int32.reduceToInt, nI_toInt] at i105
          refine x_iconst (v := 0) hκ dX0_isJunk_112 (by decide) ?_
          refine c_retz hκ hr dX0_isJunk_113 (by first | exact Or.inl rfl | exact Or.inr rfl) ?_
          obtain rfl : i = 12 := by omega
          exact ⟨Tz0 (fun z => (lg_pos.mpr z) c105), rfl⟩
        · -- X0_isJunk 105F
          have i105 := c105
          simp (disch := omega) only [i32_lt, i32_le, i32_eq, Int32.reduceToInt, nI_toInt] at i105
          refine x_iconst (v := 1) hκ dX0_isJunk_108 (by decide) ?_
          refine x_goto (tgt := 113) hκ dX0_isJunk_109 (by decide) ?_
          refine c_retz hκ hr dX0_isJunk_113 (by first | exact Or.inl rfl | exact Or.inr rfl) ?_
          obtain rfl : i = 12 := by omega
          exact ⟨Tz1 (lg_pos.mp c105), rfl⟩
      · -- X0_isJunk 28F
        have i28 := c28
        simp (disch := omega) only [i32_lt, i32_le, i32_eq, Int32.reduceToInt, nI_toInt] at i28
        refine x_aload_n hκ dX0_isJunk_31 rfl ?_
        refine x_iload hκ dX0_isJunk_32 rfl ?_
        refine c_callV  hκ (mX16_hasWord l1 (l4 3 (by decide) (by decide))) (by omega) (by decide) wX0_408 aX16_hasWord kX16 (by exact l1) rfl (Nat.le_of_ble_eq_true rfl) dX0_isJunk_34 (jIr (fun r34 h34 => ?_))
        refine x_if_eq (tgt := 95) hκ dX0_isJunk_37 (by decide) (fun c37 => ?_) (fun c37 => ?_)
        · -- X0_isJunk 37T
          have i37 := h34.f c37
          try simp only [Int32.reduceToInt] at i37
          refine x_iincN (y := 1) hκ dX0_isJunk_95 (by decide) rfl (by rw [hL]; decide) rfl (by (try simp (disch := omega) only [oS_k, oS_o, oS_a, oS_f, oS_n, aS_k, aS_o, aS_a, aS_f, aS_n, fS_k, fS_o, fS_a, fS_f, fS_n, nO_k, nO_o, nO_a, nA_k, nA_o, nA_a, nA_f, nA_n, nF_k, nF_o, nF_a, nF_f, nF_n, Nat.reduceEqDiff, ↓reduceIte, and_true, true_and, and_false, false_and, reduceCtorEq, xl_0, xl_1, xl_2, nI_add, nI_1, nm_2, nm_3, nm_4, nm_6, nm_7, nm_8, nm_12, nm_16, na_0, na_2, na_3, na_4, na_5, na_6, na_7, na_8, nm_p, nm_m, nI_clamp]); first | exact h.sc.o (by decide) rfl | exact h.sc.ob1 (by omega) | exact h.sc.ob2 (by omega) | exact h.sc.ob3 (by omega) | exact h.sc.ot (by omega) | exact h.sc.fb (by omega) | exact h.sc.ft (by omega) (by omega) | exact h.sc.fs (by omega) | exact h.p.1 | exact h.p.2.2.2.2.1 | exact h.p.2.2.2.2.2.1 | exact h.p.2.2.2.2.2.2.1 | exact h.p.2.2.2.2.2.2.2.1 | exact h.p.2.2.2.2.2.2.2.2.1 | exact rfl) ?_
          refine x_goto (tgt := 24) hκ dX0_isJunk_98 (by decide) ?_
          have q := ih (i + 1) (by omega) (by omega)
          rw [jA, jB, if_neg i37, if_neg i37] at q
          exact q
        · -- X0_isJunk 37F
          have i37 := h34.t c37
          try simp only [Int32.reduceToInt] at i37
          refine x_lload_n hκ dX0_isJunk_40 rfl ?_
          refine x_aload_n hκ dX0_isJunk_41 rfl ?_
          refine c_get hκ kX0 (by (try simp (disch := omega) only [oS_k, oS_o, oS_a, oS_f, oS_n, aS_k, aS_o, aS_a, aS_f, aS_n, fS_k, fS_o, fS_a, fS_f, fS_n, nO_k, nO_o, nO_a, nA_k, nA_o, nA_a, nA_f, nA_n, nF_k, nF_o, nF_a, nF_f, nF_n, Nat.reduceEqDiff, ↓reduceIte, and_true, true_and, and_false, false_and, reduceCtorEq, xl_0, xl_1, xl_2, nI_add, nI_1, nm_2, nm_3, nm_4, nm_6, nm_7, nm_8, nm_12, nm_16, na_0, na_2, na_3, na_4, na_5, na_6, na_7, na_8, nm_p, nm_m, nI_clamp]); first | done | assumption | exact h.sc.k (by decide) | exact h.sc.kb (by omega) | exact h.sc.kbt (by omega) | exact h.sc.kbh (by omega) | exact h.sc.kba (by omega) | exact h.sc.kt (by omega) | exact h.sc.ktl (by omega) | exact h.sc.ks (by omega) | rfl) 19 (by decide) (Or.inl q649) rfl (by (try simp (disch := omega) only [oS_k, oS_o, oS_a, oS_f, oS_n, aS_k, aS_o, aS_a, aS_f, aS_n, fS_k, fS_o, fS_a, fS_f, fS_n, nO_k, nO_o, nO_a, nA_k, nA_o, nA_a, nA_f, nA_n, nF_k, nF_o, nF_a, nF_f, nF_n, Nat.reduceEqDiff, ↓reduceIte, and_true, true_and, and_false, false_and, reduceCtorEq, xl_0, xl_1, xl_2, nI_add, nI_1, nm_2, nm_3, nm_4, nm_6, nm_7, nm_8, nm_12, nm_16, na_0, na_2, na_3, na_4, na_5, na_6, na_7, na_8, nm_p, nm_m, nI_clamp]); first | exact h.sc.o (by decide) rfl | exact h.sc.ob1 (by omega) | exact h.sc.ob2 (by omega) | exact h.sc.ob3 (by omega) | exact h.sc.ot (by omega) | exact h.sc.fb (by omega) | exact h.sc.ft (by omega) (by omega) | exact h.sc.fs (by omega) | exact h.p.1 | exact h.p.2.2.2.2.1 | exact h.p.2.2.2.2.2.1 | exact h.p.2.2.2.2.2.2.1 | exact h.p.2.2.2.2.2.2.2.1 | exact h.p.2.2.2.2.2.2.2.2.1 | exact rfl) dX0_isJunk_42 ?_
          refine x_iload hκ dX0_isJunk_45 rfl ?_
          refine c_iald hκ (by (try simp (disch := omega) only [oS_k, oS_o, oS_a, oS_f, oS_n, aS_k, aS_o, aS_a, aS_f, aS_n, fS_k, fS_o, fS_a, fS_f, fS_n, nO_k, nO_o, nO_a, nA_k, nA_o, nA_a, nA_f, nA_n, nF_k, nF_o, nF_a, nF_f, nF_n, Nat.reduceEqDiff, ↓reduceIte, and_true, true_and, and_false, false_and, reduceCtorEq, xl_0, xl_1, xl_2, nI_add, nI_1, nm_2, nm_3, nm_4, nm_6, nm_7, nm_8, nm_12, nm_16, na_0, na_2, na_3, na_4, na_5, na_6, na_7, na_8, nm_p, nm_m, nI_clamp]); first | done | assumption | exact h.sc.k (by decide) | exact h.sc.kb (by omega) | exact h.sc.kbt (by omega) | exact h.sc.kbh (by omega) | exact h.sc.kba (by omega) | exact h.sc.kt (by omega) | exact h.sc.ktl (by omega) | exact h.sc.ks (by omega) | rfl) (by (try simp (disch := omega) only [oS_k, oS_o, oS_a, oS_f, oS_n, aS_k, aS_o, aS_a, aS_f, aS_n, fS_k, fS_o, fS_a, fS_f, fS_n, nO_k, nO_o, nO_a, nA_k, nA_o, nA_a, nA_f, nA_n, nF_k, nF_o, nF_a, nF_f, nF_n, Nat.reduceEqDiff, ↓reduceIte, and_true, true_and, and_false, false_and, reduceCtorEq, xl_0, xl_1, xl_2, nI_add, nI_1, nm_2, nm_3, nm_4, nm_6, nm_7, nm_8, nm_12, nm_16, na_0, na_2, na_3, na_4, na_5, na_6, na_7, na_8, nm_p, nm_m, nI_clamp]); first | exact h.sc.n3 | exact h.sc.n4 | exact h.sc.nbt (by omega) | exact h.sc.nbh (by omega) | exact h.sc.nba (by omega) | exact h.sc.n41 | exact h.sc.n42 | exact h.sc.n43 | exact h.sc.n45 | exact h.sc.n46 | exact h.sc.n48 | exact rfl) (by first | ((with_reducible refine vp_in_nI ?_ ?_) <;> omega) | exact i32_in (by omega) (by omega) | exact i32_in' (by simp only [Int32.toInt_add, Int32.toInt_mul, Int32.toInt_sub, Int32.reduceToInt, Int.bmod_add_bmod, Int.bmod_sub_bmod, Int.add_bmod_bmod, Int.sub_bmod_bmod, Int.bmod_mul_bmod, Int.mul_bmod_bmod]; exact i32_bm (by omega) (by omega)) (by omega) (by omega) | exact i32_in (by decide) (by decide)) (by exact ((congrArg (s.2.2.1 (L 46)) q1).trans (h.kn.2 i (by omega)))) dX0_isJunk_47 ?_
          refine x_i2l hκ dX0_isJunk_48 ?_
          refine x_lconst (v := 1) hκ dX0_isJunk_49 (by decide) ?_
          refine x_ladd hκ dX0_isJunk_50 ?_
          refine x_aload_n hκ dX0_isJunk_51 rfl ?_
          refine c_get hκ kX0 (by (try simp (disch := omega) only [oS_k, oS_o, oS_a, oS_f, oS_n, aS_k, aS_o, aS_a, aS_f, aS_n, fS_k, fS_o, fS_a, fS_f, fS_n, nO_k, nO_o, nO_a, nA_k, nA_o, nA_a, nA_f, nA_n, nF_k, nF_o, nF_a, nF_f, nF_n, Nat.reduceEqDiff, ↓reduceIte, and_true, true_and, and_false, false_and, reduceCtorEq, xl_0, xl_1, xl_2, nI_add, nI_1, nm_2, nm_3, nm_4, nm_6, nm_7, nm_8, nm_12, nm_16, na_0, na_2, na_3, na_4, na_5, na_6, na_7, na_8, nm_p, nm_m, nI_clamp]); first | done | assumption | exact h.sc.k (by decide) | exact h.sc.kb (by omega) | exact h.sc.kbt (by omega) | exact h.sc.kbh (by omega) | exact h.sc.kba (by omega) | exact h.sc.kt (by omega) | exact h.sc.ktl (by omega) | exact h.sc.ks (by omega) | rfl) 18 (by decide) (Or.inl q648) rfl (by (try simp (disch := omega) only [oS_k, oS_o, oS_a, oS_f, oS_n, aS_k, aS_o, aS_a, aS_f, aS_n, fS_k, fS_o, fS_a, fS_f, fS_n, nO_k, nO_o, nO_a, nA_k, nA_o, nA_a, nA_f, nA_n, nF_k, nF_o, nF_a, nF_f, nF_n, Nat.reduceEqDiff, ↓reduceIte, and_true, true_and, and_false, false_and, reduceCtorEq, xl_0, xl_1, xl_2, nI_add, nI_1, nm_2, nm_3, nm_4, nm_6, nm_7, nm_8, nm_12, nm_16, na_0, na_2, na_3, na_4, na_5, na_6, na_7, na_8, nm_p, nm_m, nI_clamp]); first | exact h.sc.o (by decide) rfl | exact h.sc.ob1 (by omega) | exact h.sc.ob2 (by omega) | exact h.sc.ob3 (by omega) | exact h.sc.ot (by omega) | exact h.sc.fb (by omega) | exact h.sc.ft (by omega) (by omega) | exact h.sc.fs (by omega) | exact h.p.1 | exact h.p.2.2.2.2.1 | exact h.p.2.2.2.2.2.1 | exact h.p.2.2.2.2.2.2.1 | exact h.p.2.2.2.2.2.2.2.1 | exact h.p.2.2.2.2.2.2.2.2.1 | exact rfl) dX0_isJunk_52 ?_
          refine x_iconst (v := 1) hκ dX0_isJunk_55 (by decide) ?_
          refine c_iald hκ (by (try simp (disch := omega) only [oS_k, oS_o, oS_a, oS_f, oS_n, aS_k, aS_o, aS_a, aS_f, aS_n, fS_k, fS_o, fS_a, fS_f, fS_n, nO_k, nO_o, nO_a, nA_k, nA_o, nA_a, nA_f, nA_n, nF_k, nF_o, nF_a, nF_f, nF_n, Nat.reduceEqDiff, ↓reduceIte, and_true, true_and, and_false, false_and, reduceCtorEq, xl_0, xl_1, xl_2, nI_add, nI_1, nm_2, nm_3, nm_4, nm_6, nm_7, nm_8, nm_12, nm_16, na_0, na_2, na_3, na_4, na_5, na_6, na_7, na_8, nm_p, nm_m, nI_clamp]); first | done | assumption | exact h.sc.k (by decide) | exact h.sc.kb (by omega) | exact h.sc.kbt (by omega) | exact h.sc.kbh (by omega) | exact h.sc.kba (by omega) | exact h.sc.kt (by omega) | exact h.sc.ktl (by omega) | exact h.sc.ks (by omega) | rfl) (by (try simp (disch := omega) only [oS_k, oS_o, oS_a, oS_f, oS_n, aS_k, aS_o, aS_a, aS_f, aS_n, fS_k, fS_o, fS_a, fS_f, fS_n, nO_k, nO_o, nO_a, nA_k, nA_o, nA_a, nA_f, nA_n, nF_k, nF_o, nF_a, nF_f, nF_n, Nat.reduceEqDiff, ↓reduceIte, and_true, true_and, and_false, false_and, reduceCtorEq, xl_0, xl_1, xl_2, nI_add, nI_1, nm_2, nm_3, nm_4, nm_6, nm_7, nm_8, nm_12, nm_16, na_0, na_2, na_3, na_4, na_5, na_6, na_7, na_8, nm_p, nm_m, nI_clamp]); first | exact h.sc.n3 | exact h.sc.n4 | exact h.sc.nbt (by omega) | exact h.sc.nbh (by omega) | exact h.sc.nba (by omega) | exact h.sc.n41 | exact h.sc.n42 | exact h.sc.n43 | exact h.sc.n45 | exact h.sc.n46 | exact h.sc.n48 | exact rfl) (by first | ((with_reducible refine vp_in_nI ?_ ?_) <;> omega) | exact i32_in (by omega) (by omega) | exact i32_in' (by simp only [Int32.toInt_add, Int32.toInt_mul, Int32.toInt_sub, Int32.reduceToInt, Int.bmod_add_bmod, Int.bmod_sub_bmod, Int.add_bmod_bmod, Int.sub_bmod_bmod, Int.bmod_mul_bmod, Int.mul_bmod_bmod]; exact i32_bm (by omega) (by omega)) (by omega) (by omega) | exact i32_in (by decide) (by decide)) (by exact (h.kn.1 1 (by decide))) dX0_isJunk_56 ?_
          refine x_i2l hκ dX0_isJunk_57 ?_
          refine x_ldc2 hκ q843 dX0_isJunk_58 ?_
          refine x_ladd hκ dX0_isJunk_61 ?_
          refine x_lmul hκ dX0_isJunk_62 ?_
          refine x_lmul hκ dX0_isJunk_63 ?_
          refine x_lstore_n hκ dX0_isJunk_64 (by rw [hL]; decide) rfl ?_
          refine x_lload hκ dX0_isJunk_65 rfl ?_
          refine x_aload_n hκ dX0_isJunk_67 rfl ?_
          refine c_get hκ kX0 (by (try simp (disch := omega) only [oS_k, oS_o, oS_a, oS_f, oS_n, aS_k, aS_o, aS_a, aS_f, aS_n, fS_k, fS_o, fS_a, fS_f, fS_n, nO_k, nO_o, nO_a, nA_k, nA_o, nA_a, nA_f, nA_n, nF_k, nF_o, nF_a, nF_f, nF_n, Nat.reduceEqDiff, ↓reduceIte, and_true, true_and, and_false, false_and, reduceCtorEq, xl_0, xl_1, xl_2, nI_add, nI_1, nm_2, nm_3, nm_4, nm_6, nm_7, nm_8, nm_12, nm_16, na_0, na_2, na_3, na_4, na_5, na_6, na_7, na_8, nm_p, nm_m, nI_clamp]); first | done | assumption | exact h.sc.k (by decide) | exact h.sc.kb (by omega) | exact h.sc.kbt (by omega) | exact h.sc.kbh (by omega) | exact h.sc.kba (by omega) | exact h.sc.kt (by omega) | exact h.sc.ktl (by omega) | exact h.sc.ks (by omega) | rfl) 19 (by decide) (Or.inl q649) rfl (by (try simp (disch := omega) only [oS_k, oS_o, oS_a, oS_f, oS_n, aS_k, aS_o, aS_a, aS_f, aS_n, fS_k, fS_o, fS_a, fS_f, fS_n, nO_k, nO_o, nO_a, nA_k, nA_o, nA_a, nA_f, nA_n, nF_k, nF_o, nF_a, nF_f, nF_n, Nat.reduceEqDiff, ↓reduceIte, and_true, true_and, and_false, false_and, reduceCtorEq, xl_0, xl_1, xl_2, nI_add, nI_1, nm_2, nm_3, nm_4, nm_6, nm_7, nm_8, nm_12, nm_16, na_0, na_2, na_3, na_4, na_5, na_6, na_7, na_8, nm_p, nm_m, nI_clamp]); first | exact h.sc.o (by decide) rfl | exact h.sc.ob1 (by omega) | exact h.sc.ob2 (by omega) | exact h.sc.ob3 (by omega) | exact h.sc.ot (by omega) | exact h.sc.fb (by omega) | exact h.sc.ft (by omega) (by omega) | exact h.sc.fs (by omega) | exact h.p.1 | exact h.p.2.2.2.2.1 | exact h.p.2.2.2.2.2.1 | exact h.p.2.2.2.2.2.2.1 | exact h.p.2.2.2.2.2.2.2.1 | exact h.p.2.2.2.2.2.2.2.2.1 | exact rfl) dX0_isJunk_68 ?_
          refine x_bipush (v := 12) hκ dX0_isJunk_71 (by decide) ?_
          refine x_iload hκ dX0_isJunk_73 rfl ?_
          refine x_iadd hκ dX0_isJunk_75 ?_
          rw [show (12 : Int32) + nI i = nI (12 + i) from nI_add 12 i]
          refine c_iald hκ (by (try simp (disch := omega) only [oS_k, oS_o, oS_a, oS_f, oS_n, aS_k, aS_o, aS_a, aS_f, aS_n, fS_k, fS_o, fS_a, fS_f, fS_n, nO_k, nO_o, nO_a, nA_k, nA_o, nA_a, nA_f, nA_n, nF_k, nF_o, nF_a, nF_f, nF_n, Nat.reduceEqDiff, ↓reduceIte, and_true, true_and, and_false, false_and, reduceCtorEq, xl_0, xl_1, xl_2, nI_add, nI_1, nm_2, nm_3, nm_4, nm_6, nm_7, nm_8, nm_12, nm_16, na_0, na_2, na_3, na_4, na_5, na_6, na_7, na_8, nm_p, nm_m, nI_clamp]); first | done | assumption | exact h.sc.k (by decide) | exact h.sc.kb (by omega) | exact h.sc.kbt (by omega) | exact h.sc.kbh (by omega) | exact h.sc.kba (by omega) | exact h.sc.kt (by omega) | exact h.sc.ktl (by omega) | exact h.sc.ks (by omega) | rfl) (by (try simp (disch := omega) only [oS_k, oS_o, oS_a, oS_f, oS_n, aS_k, aS_o, aS_a, aS_f, aS_n, fS_k, fS_o, fS_a, fS_f, fS_n, nO_k, nO_o, nO_a, nA_k, nA_o, nA_a, nA_f, nA_n, nF_k, nF_o, nF_a, nF_f, nF_n, Nat.reduceEqDiff, ↓reduceIte, and_true, true_and, and_false, false_and, reduceCtorEq, xl_0, xl_1, xl_2, nI_add, nI_1, nm_2, nm_3, nm_4, nm_6, nm_7, nm_8, nm_12, nm_16, na_0, na_2, na_3, na_4, na_5, na_6, na_7, na_8, nm_p, nm_m, nI_clamp]); first | exact h.sc.n3 | exact h.sc.n4 | exact h.sc.nbt (by omega) | exact h.sc.nbh (by omega) | exact h.sc.nba (by omega) | exact h.sc.n41 | exact h.sc.n42 | exact h.sc.n43 | exact h.sc.n45 | exact h.sc.n46 | exact h.sc.n48 | exact rfl) (by first | ((with_reducible refine vp_in_nI ?_ ?_) <;> omega) | exact i32_in (by omega) (by omega) | exact i32_in' (by simp only [Int32.toInt_add, Int32.toInt_mul, Int32.toInt_sub, Int32.reduceToInt, Int.bmod_add_bmod, Int.bmod_sub_bmod, Int.add_bmod_bmod, Int.sub_bmod_bmod, Int.bmod_mul_bmod, Int.mul_bmod_bmod]; exact i32_bm (by omega) (by omega)) (by omega) (by omega) | exact i32_in (by decide) (by decide)) (by exact ((congrArg (s.2.2.1 (L 46)) (nI_clamp (by omega))).trans (h.kn.2 (12 + i) (by omega)))) dX0_isJunk_76 ?_
          refine x_i2l hκ dX0_isJunk_77 ?_
          refine x_lconst (v := 1) hκ dX0_isJunk_78 (by decide) ?_
          refine x_ladd hκ dX0_isJunk_79 ?_
          refine x_aload_n hκ dX0_isJunk_80 rfl ?_
          refine c_get hκ kX0 (by (try simp (disch := omega) only [oS_k, oS_o, oS_a, oS_f, oS_n, aS_k, aS_o, aS_a, aS_f, aS_n, fS_k, fS_o, fS_a, fS_f, fS_n, nO_k, nO_o, nO_a, nA_k, nA_o, nA_a, nA_f, nA_n, nF_k, nF_o, nF_a, nF_f, nF_n, Nat.reduceEqDiff, ↓reduceIte, and_true, true_and, and_false, false_and, reduceCtorEq, xl_0, xl_1, xl_2, nI_add, nI_1, nm_2, nm_3, nm_4, nm_6, nm_7, nm_8, nm_12, nm_16, na_0, na_2, na_3, na_4, na_5, na_6, na_7, na_8, nm_p, nm_m, nI_clamp]); first | done | assumption | exact h.sc.k (by decide) | exact h.sc.kb (by omega) | exact h.sc.kbt (by omega) | exact h.sc.kbh (by omega) | exact h.sc.kba (by omega) | exact h.sc.kt (by omega) | exact h.sc.ktl (by omega) | exact h.sc.ks (by omega) | rfl) 18 (by decide) (Or.inl q648) rfl (by (try simp (disch := omega) only [oS_k, oS_o, oS_a, oS_f, oS_n, aS_k, aS_o, aS_a, aS_f, aS_n, fS_k, fS_o, fS_a, fS_f, fS_n, nO_k, nO_o, nO_a, nA_k, nA_o, nA_a, nA_f, nA_n, nF_k, nF_o, nF_a, nF_f, nF_n, Nat.reduceEqDiff, ↓reduceIte, and_true, true_and, and_false, false_and, reduceCtorEq, xl_0, xl_1, xl_2, nI_add, nI_1, nm_2, nm_3, nm_4, nm_6, nm_7, nm_8, nm_12, nm_16, na_0, na_2, na_3, na_4, na_5, na_6, na_7, na_8, nm_p, nm_m, nI_clamp]); first | exact h.sc.o (by decide) rfl | exact h.sc.ob1 (by omega) | exact h.sc.ob2 (by omega) | exact h.sc.ob3 (by omega) | exact h.sc.ot (by omega) | exact h.sc.fb (by omega) | exact h.sc.ft (by omega) (by omega) | exact h.sc.fs (by omega) | exact h.p.1 | exact h.p.2.2.2.2.1 | exact h.p.2.2.2.2.2.1 | exact h.p.2.2.2.2.2.2.1 | exact h.p.2.2.2.2.2.2.2.1 | exact h.p.2.2.2.2.2.2.2.2.1 | exact rfl) dX0_isJunk_81 ?_
          refine x_iconst (v := 0) hκ dX0_isJunk_84 (by decide) ?_
          refine c_iald hκ (by (try simp (disch := omega) only [oS_k, oS_o, oS_a, oS_f, oS_n, aS_k, aS_o, aS_a, aS_f, aS_n, fS_k, fS_o, fS_a, fS_f, fS_n, nO_k, nO_o, nO_a, nA_k, nA_o, nA_a, nA_f, nA_n, nF_k, nF_o, nF_a, nF_f, nF_n, Nat.reduceEqDiff, ↓reduceIte, and_true, true_and, and_false, false_and, reduceCtorEq, xl_0, xl_1, xl_2, nI_add, nI_1, nm_2, nm_3, nm_4, nm_6, nm_7, nm_8, nm_12, nm_16, na_0, na_2, na_3, na_4, na_5, na_6, na_7, na_8, nm_p, nm_m, nI_clamp]); first | done | assumption | exact h.sc.k (by decide) | exact h.sc.kb (by omega) | exact h.sc.kbt (by omega) | exact h.sc.kbh (by omega) | exact h.sc.kba (by omega) | exact h.sc.kt (by omega) | exact h.sc.ktl (by omega) | exact h.sc.ks (by omega) | rfl) (by (try simp (disch := omega) only [oS_k, oS_o, oS_a, oS_f, oS_n, aS_k, aS_o, aS_a, aS_f, aS_n, fS_k, fS_o, fS_a, fS_f, fS_n, nO_k, nO_o, nO_a, nA_k, nA_o, nA_a, nA_f, nA_n, nF_k, nF_o, nF_a, nF_f, nF_n, Nat.reduceEqDiff, ↓reduceIte, and_true, true_and, and_false, false_and, reduceCtorEq, xl_0, xl_1, xl_2, nI_add, nI_1, nm_2, nm_3, nm_4, nm_6, nm_7, nm_8, nm_12, nm_16, na_0, na_2, na_3, na_4, na_5, na_6, na_7, na_8, nm_p, nm_m, nI_clamp]); first | exact h.sc.n3 | exact h.sc.n4 | exact h.sc.nbt (by omega) | exact h.sc.nbh (by omega) | exact h.sc.nba (by omega) | exact h.sc.n41 | exact h.sc.n42 | exact h.sc.n43 | exact h.sc.n45 | exact h.sc.n46 | exact h.sc.n48 | exact rfl) (by first | ((with_reducible refine vp_in_nI ?_ ?_) <;> omega) | exact i32_in (by omega) (by omega) | exact i32_in' (by simp only [Int32.toInt_add, Int32.toInt_mul, Int32.toInt_sub, Int32.reduceToInt, Int.bmod_add_bmod, Int.bmod_sub_bmod, Int.add_bmod_bmod, Int.sub_bmod_bmod, Int.bmod_mul_bmod, Int.mul_bmod_bmod]; exact i32_bm (by omega) (by omega)) (by omega) (by omega) | exact i32_in (by decide) (by decide)) (by exact (h.kn.1 0 (by decide))) dX0_isJunk_85 ?_
          refine x_i2l hκ dX0_isJunk_86 ?_
          refine x_ldc2 hκ q843 dX0_isJunk_87 ?_
          refine x_ladd hκ dX0_isJunk_90 ?_
          refine x_lmul hκ dX0_isJunk_91 ?_
          refine x_lmul hκ dX0_isJunk_92 ?_
          refine x_lstore hκ dX0_isJunk_93 (by rw [hL]; decide) rfl ?_
          refine x_iincN (y := 1) hκ dX0_isJunk_95 (by decide) rfl (by rw [hL]; decide) rfl (by (try simp (disch := omega) only [oS_k, oS_o, oS_a, oS_f, oS_n, aS_k, aS_o, aS_a, aS_f, aS_n, fS_k, fS_o, fS_a, fS_f, fS_n, nO_k, nO_o, nO_a, nA_k, nA_o, nA_a, nA_f, nA_n, nF_k, nF_o, nF_a, nF_f, nF_n, Nat.reduceEqDiff, ↓reduceIte, and_true, true_and, and_false, false_and, reduceCtorEq, xl_0, xl_1, xl_2, nI_add, nI_1, nm_2, nm_3, nm_4, nm_6, nm_7, nm_8, nm_12, nm_16, na_0, na_2, na_3, na_4, na_5, na_6, na_7, na_8, nm_p, nm_m, nI_clamp]); first | exact h.sc.o (by decide) rfl | exact h.sc.ob1 (by omega) | exact h.sc.ob2 (by omega) | exact h.sc.ob3 (by omega) | exact h.sc.ot (by omega) | exact h.sc.fb (by omega) | exact h.sc.ft (by omega) (by omega) | exact h.sc.fs (by omega) | exact h.p.1 | exact h.p.2.2.2.2.1 | exact h.p.2.2.2.2.2.1 | exact h.p.2.2.2.2.2.2.1 | exact h.p.2.2.2.2.2.2.2.1 | exact h.p.2.2.2.2.2.2.2.2.1 | exact rfl) ?_
          refine x_goto (tgt := 24) hκ dX0_isJunk_98 (by decide) ?_
          have q := ih (i + 1) (by omega) (by omega)
          rw [jA, jB, if_pos i37, if_pos i37, Int64.mul_comm ((σ.2 57 1).toInt64 + 2), Int64.mul_comm ((σ.2 57 0).toInt64 + 2)] at q
          exact q
  refine x_aload_n hκ dX0_isJunk_0 rfl ?_
  refine c_get hκ kX0 (by (try simp (disch := omega) only [oS_k, oS_o, oS_a, oS_f, oS_n, aS_k, aS_o, aS_a, aS_f, aS_n, fS_k, fS_o, fS_a, fS_f, fS_n, nO_k, nO_o, nO_a, nA_k, nA_o, nA_a, nA_f, nA_n, nF_k, nF_o, nF_a, nF_f, nF_n, Nat.reduceEqDiff, ↓reduceIte, and_true, true_and, and_false, false_and, reduceCtorEq, xl_0, xl_1, xl_2, nI_add, nI_1, nm_2, nm_3, nm_4, nm_6, nm_7, nm_8, nm_12, nm_16, na_0, na_2, na_3, na_4, na_5, na_6, na_7, na_8, nm_p, nm_m, nI_clamp]); first | done | assumption | exact h.sc.k (by decide) | exact h.sc.kb (by omega) | exact h.sc.kbt (by omega) | exact h.sc.kbh (by omega) | exact h.sc.kba (by omega) | exact h.sc.kt (by omega) | exact h.sc.ktl (by omega) | exact h.sc.ks (by omega) | rfl) 18 (by decide) (Or.inl q648) rfl (by (try simp (disch := omega) only [oS_k, oS_o, oS_a, oS_f, oS_n, aS_k, aS_o, aS_a, aS_f, aS_n, fS_k, fS_o, fS_a, fS_f, fS_n, nO_k, nO_o, nO_a, nA_k, nA_o, nA_a, nA_f, nA_n, nF_k, nF_o, nF_a, nF_f, nF_n, Nat.reduceEqDiff, ↓reduceIte, and_true, true_and, and_false, false_and, reduceCtorEq, xl_0, xl_1, xl_2, nI_add, nI_1, nm_2, nm_3, nm_4, nm_6, nm_7, nm_8, nm_12, nm_16, na_0, na_2, na_3, na_4, na_5, na_6, na_7, na_8, nm_p, nm_m, nI_clamp]); first | exact h.sc.o (by decide) rfl | exact h.sc.ob1 (by omega) | exact h.sc.ob2 (by omega) | exact h.sc.ob3 (by omega) | exact h.sc.ot (by omega) | exact h.sc.fb (by omega) | exact h.sc.ft (by omega) (by omega) | exact h.sc.fs (by omega) | exact h.p.1 | exact h.p.2.2.2.2.1 | exact h.p.2.2.2.2.2.1 | exact h.p.2.2.2.2.2.2.1 | exact h.p.2.2.2.2.2.2.2.1 | exact h.p.2.2.2.2.2.2.2.2.1 | exact rfl) dX0_isJunk_1 ?_
  refine x_iconst (v := 0) hκ dX0_isJunk_4 (by decide) ?_
  refine c_iald hκ (by (try simp (disch := omega) only [oS_k, oS_o, oS_a, oS_f, oS_n, aS_k, aS_o, aS_a, aS_f, aS_n, fS_k, fS_o, fS_a, fS_f, fS_n, nO_k, nO_o, nO_a, nA_k, nA_o, nA_a, nA_f, nA_n, nF_k, nF_o, nF_a, nF_f, nF_n, Nat.reduceEqDiff, ↓reduceIte, and_true, true_and, and_false, false_and, reduceCtorEq, xl_0, xl_1, xl_2, nI_add, nI_1, nm_2, nm_3, nm_4, nm_6, nm_7, nm_8, nm_12, nm_16, na_0, na_2, na_3, na_4, na_5, na_6, na_7, na_8, nm_p, nm_m, nI_clamp]); first | done | assumption | exact h.sc.k (by decide) | exact h.sc.kb (by omega) | exact h.sc.kbt (by omega) | exact h.sc.kbh (by omega) | exact h.sc.kba (by omega) | exact h.sc.kt (by omega) | exact h.sc.ktl (by omega) | exact h.sc.ks (by omega) | rfl) (by (try simp (disch := omega) only [oS_k, oS_o, oS_a, oS_f, oS_n, aS_k, aS_o, aS_a, aS_f, aS_n, fS_k, fS_o, fS_a, fS_f, fS_n, nO_k, nO_o, nO_a, nA_k, nA_o, nA_a, nA_f, nA_n, nF_k, nF_o, nF_a, nF_f, nF_n, Nat.reduceEqDiff, ↓reduceIte, and_true, true_and, and_false, false_and, reduceCtorEq, xl_0, xl_1, xl_2, nI_add, nI_1, nm_2, nm_3, nm_4, nm_6, nm_7, nm_8, nm_12, nm_16, na_0, na_2, na_3, na_4, na_5, na_6, na_7, na_8, nm_p, nm_m, nI_clamp]); first | exact h.sc.n3 | exact h.sc.n4 | exact h.sc.nbt (by omega) | exact h.sc.nbh (by omega) | exact h.sc.nba (by omega) | exact h.sc.n41 | exact h.sc.n42 | exact h.sc.n43 | exact h.sc.n45 | exact h.sc.n46 | exact h.sc.n48 | exact rfl) (by first | ((with_reducible refine vp_in_nI ?_ ?_) <;> omega) | exact i32_in (by omega) (by omega) | exact i32_in' (by simp only [Int32.toInt_add, Int32.toInt_mul, Int32.toInt_sub, Int32.reduceToInt, Int.bmod_add_bmod, Int.bmod_sub_bmod, Int.add_bmod_bmod, Int.sub_bmod_bmod, Int.bmod_mul_bmod, Int.mul_bmod_bmod]; exact i32_bm (by omega) (by omega)) (by omega) (by omega) | exact i32_in (by decide) (by decide)) (by exact (h.kn.1 0 (by decide))) dX0_isJunk_5 ?_
  refine x_i2l hκ dX0_isJunk_6 ?_
  refine x_lconst (v := 1) hκ dX0_isJunk_7 (by decide) ?_
  refine x_ladd hκ dX0_isJunk_8 ?_
  refine x_lstore_n hκ dX0_isJunk_9 (by rw [hL]; decide) rfl ?_
  refine x_aload_n hκ dX0_isJunk_10 rfl ?_
  refine c_get hκ kX0 (by (try simp (disch := omega) only [oS_k, oS_o, oS_a, oS_f, oS_n, aS_k, aS_o, aS_a, aS_f, aS_n, fS_k, fS_o, fS_a, fS_f, fS_n, nO_k, nO_o, nO_a, nA_k, nA_o, nA_a, nA_f, nA_n, nF_k, nF_o, nF_a, nF_f, nF_n, Nat.reduceEqDiff, ↓reduceIte, and_true, true_and, and_false, false_and, reduceCtorEq, xl_0, xl_1, xl_2, nI_add, nI_1, nm_2, nm_3, nm_4, nm_6, nm_7, nm_8, nm_12, nm_16, na_0, na_2, na_3, na_4, na_5, na_6, na_7, na_8, nm_p, nm_m, nI_clamp]); first | done | assumption | exact h.sc.k (by decide) | exact h.sc.kb (by omega) | exact h.sc.kbt (by omega) | exact h.sc.kbh (by omega) | exact h.sc.kba (by omega) | exact h.sc.kt (by omega) | exact h.sc.ktl (by omega) | exact h.sc.ks (by omega) | rfl) 18 (by decide) (Or.inl q648) rfl (by (try simp (disch := omega) only [oS_k, oS_o, oS_a, oS_f, oS_n, aS_k, aS_o, aS_a, aS_f, aS_n, fS_k, fS_o, fS_a, fS_f, fS_n, nO_k, nO_o, nO_a, nA_k, nA_o, nA_a, nA_f, nA_n, nF_k, nF_o, nF_a, nF_f, nF_n, Nat.reduceEqDiff, ↓reduceIte, and_true, true_and, and_false, false_and, reduceCtorEq, xl_0, xl_1, xl_2, nI_add, nI_1, nm_2, nm_3, nm_4, nm_6, nm_7, nm_8, nm_12, nm_16, na_0, na_2, na_3, na_4, na_5, na_6, na_7, na_8, nm_p, nm_m, nI_clamp]); first | exact h.sc.o (by decide) rfl | exact h.sc.ob1 (by omega) | exact h.sc.ob2 (by omega) | exact h.sc.ob3 (by omega) | exact h.sc.ot (by omega) | exact h.sc.fb (by omega) | exact h.sc.ft (by omega) (by omega) | exact h.sc.fs (by omega) | exact h.p.1 | exact h.p.2.2.2.2.1 | exact h.p.2.2.2.2.2.1 | exact h.p.2.2.2.2.2.2.1 | exact h.p.2.2.2.2.2.2.2.1 | exact h.p.2.2.2.2.2.2.2.2.1 | exact rfl) dX0_isJunk_11 ?_
  refine x_iconst (v := 1) hκ dX0_isJunk_14 (by decide) ?_
  refine c_iald hκ (by (try simp (disch := omega) only [oS_k, oS_o, oS_a, oS_f, oS_n, aS_k, aS_o, aS_a, aS_f, aS_n, fS_k, fS_o, fS_a, fS_f, fS_n, nO_k, nO_o, nO_a, nA_k, nA_o, nA_a, nA_f, nA_n, nF_k, nF_o, nF_a, nF_f, nF_n, Nat.reduceEqDiff, ↓reduceIte, and_true, true_and, and_false, false_and, reduceCtorEq, xl_0, xl_1, xl_2, nI_add, nI_1, nm_2, nm_3, nm_4, nm_6, nm_7, nm_8, nm_12, nm_16, na_0, na_2, na_3, na_4, na_5, na_6, na_7, na_8, nm_p, nm_m, nI_clamp]); first | done | assumption | exact h.sc.k (by decide) | exact h.sc.kb (by omega) | exact h.sc.kbt (by omega) | exact h.sc.kbh (by omega) | exact h.sc.kba (by omega) | exact h.sc.kt (by omega) | exact h.sc.ktl (by omega) | exact h.sc.ks (by omega) | rfl) (by (try simp (disch := omega) only [oS_k, oS_o, oS_a, oS_f, oS_n, aS_k, aS_o, aS_a, aS_f, aS_n, fS_k, fS_o, fS_a, fS_f, fS_n, nO_k, nO_o, nO_a, nA_k, nA_o, nA_a, nA_f, nA_n, nF_k, nF_o, nF_a, nF_f, nF_n, Nat.reduceEqDiff, ↓reduceIte, and_true, true_and, and_false, false_and, reduceCtorEq, xl_0, xl_1, xl_2, nI_add, nI_1, nm_2, nm_3, nm_4, nm_6, nm_7, nm_8, nm_12, nm_16, na_0, na_2, na_3, na_4, na_5, na_6, na_7, na_8, nm_p, nm_m, nI_clamp]); first | exact h.sc.n3 | exact h.sc.n4 | exact h.sc.nbt (by omega) | exact h.sc.nbh (by omega) | exact h.sc.nba (by omega) | exact h.sc.n41 | exact h.sc.n42 | exact h.sc.n43 | exact h.sc.n45 | exact h.sc.n46 | exact h.sc.n48 | exact rfl) (by first | ((with_reducible refine vp_in_nI ?_ ?_) <;> omega) | exact i32_in (by omega) (by omega) | exact i32_in' (by simp only [Int32.toInt_add, Int32.toInt_mul, Int32.toInt_sub, Int32.reduceToInt, Int.bmod_add_bmod, Int.bmod_sub_bmod, Int.add_bmod_bmod, Int.sub_bmod_bmod, Int.bmod_mul_bmod, Int.mul_bmod_bmod]; exact i32_bm (by omega) (by omega)) (by omega) (by omega) | exact i32_in (by decide) (by decide)) (by exact (h.kn.1 1 (by decide))) dX0_isJunk_15 ?_
  refine x_i2l hκ dX0_isJunk_16 ?_
  refine x_lconst (v := 1) hκ dX0_isJunk_17 (by decide) ?_
  refine x_ladd hκ dX0_isJunk_18 ?_
  refine x_lstore hκ dX0_isJunk_19 (by rw [hL]; decide) rfl ?_
  refine x_iconst (v := 0) hκ dX0_isJunk_21 (by decide) ?_
  refine x_istore hκ dX0_isJunk_22 (by rw [hL]; decide) rfl ?_
  exact loop 13 0 (by omega) (by omega)
theorem mX0_latestDay {E : gE} {L : Nat → Nat} {γ : Gh} {σ : TS} {s : CSt} (h : CW E L γ σ s) : CMg E s yX0_latestDay cX0_latestDay 1 (some .int) 4 0 0 [.ref (L 0)] (qI (fun r s' => r = lat σ ∧ s' = s)) := by
  have hN := h.l.2.1
  have h25 := h.l.1
  have h25i : (σ.1 25).toInt = vN γ := by rw [h25, nI_toInt (by omega)]
  refine CMg.of (by decide) (Nat.le_of_ble_eq_true rfl) ?_
  rintro κ rfl hL hκ hr
  refine x_aload_n hκ dX0_latestDay_0 rfl ?_
  refine c_get hκ kX0 (by (try simp (disch := omega) only [oS_k, oS_o, oS_a, oS_f, oS_n, aS_k, aS_o, aS_a, aS_f, aS_n, fS_k, fS_o, fS_a, fS_f, fS_n, nO_k, nO_o, nO_a, nA_k, nA_o, nA_a, nA_f, nA_n, nF_k, nF_o, nF_a, nF_f, nF_n, Nat.reduceEqDiff, ↓reduceIte, and_true, true_and, and_false, false_and, reduceCtorEq, xl_0, xl_1, xl_2, nI_add, nI_1, nm_2, nm_3, nm_4, nm_6, nm_7, nm_8, nm_12, nm_16, na_0, na_2, na_3, na_4, na_5, na_6, na_7, na_8, nm_p, nm_m, nI_clamp]); first | done | assumption | exact h.sc.k (by decide) | exact h.sc.kb (by omega) | exact h.sc.kbt (by omega) | exact h.sc.kbh (by omega) | exact h.sc.kba (by omega) | exact h.sc.kt (by omega) | exact h.sc.ktl (by omega) | exact h.sc.ks (by omega) | rfl) 0 (by decide) (Or.inl q629) rfl (by (try simp (disch := omega) only [oS_k, oS_o, oS_a, oS_f, oS_n, aS_k, aS_o, aS_a, aS_f, aS_n, fS_k, fS_o, fS_a, fS_f, fS_n, nO_k, nO_o, nO_a, nA_k, nA_o, nA_a, nA_f, nA_n, nF_k, nF_o, nF_a, nF_f, nF_n, Nat.reduceEqDiff, ↓reduceIte, and_true, true_and, and_false, false_and, reduceCtorEq, xl_0, xl_1, xl_2, nI_add, nI_1, nm_2, nm_3, nm_4, nm_6, nm_7, nm_8, nm_12, nm_16, na_0, na_2, na_3, na_4, na_5, na_6, na_7, na_8, nm_p, nm_m, nI_clamp]); first | exact h.sc.o (by decide) rfl | exact h.sc.ob1 (by omega) | exact h.sc.ob2 (by omega) | exact h.sc.ob3 (by omega) | exact h.sc.ot (by omega) | exact h.sc.fb (by omega) | exact h.sc.ft (by omega) (by omega) | exact h.sc.fs (by omega) | exact h.p.1 | exact h.p.2.2.2.2.1 | exact h.p.2.2.2.2.2.1 | exact h.p.2.2.2.2.2.2.1 | exact h.p.2.2.2.2.2.2.2.1 | exact h.p.2.2.2.2.2.2.2.2.1 | exact rfl) dX0_latestDay_1 ?_
  refine c_callF  hκ (mJ2_isEmpty h.aL) (by omega) (by decide) vX0_326_J2 fJ2_isEmpty kJ2 (by (try simp (disch := omega) only [oS_k, oS_o, oS_a, oS_f, oS_n, aS_k, aS_o, aS_a, aS_f, aS_n, fS_k, fS_o, fS_a, fS_f, fS_n, nO_k, nO_o, nO_a, nA_k, nA_o, nA_a, nA_f, nA_n, nF_k, nF_o, nF_a, nF_f, nF_n, Nat.reduceEqDiff, ↓reduceIte, and_true, true_and, and_false, false_and, reduceCtorEq, xl_0, xl_1, xl_2, nI_add, nI_1, nm_2, nm_3, nm_4, nm_6, nm_7, nm_8, nm_12, nm_16, na_0, na_2, na_3, na_4, na_5, na_6, na_7, na_8, nm_p, nm_m, nI_clamp]); first | done | assumption | exact h.sc.k (by decide) | exact h.sc.kb (by omega) | exact h.sc.kbt (by omega) | exact h.sc.kbh (by omega) | exact h.sc.kba (by omega) | exact h.sc.kt (by omega) | exact h.sc.ktl (by omega) | exact h.sc.ks (by omega) | rfl) rfl (Nat.le_of_ble_eq_true rfl) dX0_latestDay_4 (jIr (fun r4 h4 => ?_))
  refine x_if_eq (tgt := 16) hκ dX0_latestDay_9 (by decide) (fun c9 => ?_) (fun c9 => ?_)
  · -- X0_latestDay 9T
    have i9 := h4.f c9
    try simp only [Int32.reduceToInt] at i9
    refine x_aload_n hκ dX0_latestDay_16 rfl ?_
    refine c_get hκ kX0 (by (try simp (disch := omega) only [oS_k, oS_o, oS_a, oS_f, oS_n, aS_k, aS_o, aS_a, aS_f, aS_n, fS_k, fS_o, fS_a, fS_f, fS_n, nO_k, nO_o, nO_a, nA_k, nA_o, nA_a, nA_f, nA_n, nF_k, nF_o, nF_a, nF_f, nF_n, Nat.reduceEqDiff, ↓reduceIte, and_true, true_and, and_false, false_and, reduceCtorEq, xl_0, xl_1, xl_2, nI_add, nI_1, nm_2, nm_3, nm_4, nm_6, nm_7, nm_8, nm_12, nm_16, na_0, na_2, na_3, na_4, na_5, na_6, na_7, na_8, nm_p, nm_m, nI_clamp]); first | done | assumption | exact h.sc.k (by decide) | exact h.sc.kb (by omega) | exact h.sc.kbt (by omega) | exact h.sc.kbh (by omega) | exact h.sc.kba (by omega) | exact h.sc.kt (by omega) | exact h.sc.ktl (by omega) | exact h.sc.ks (by omega) | rfl) 0 (by decide) (Or.inl q629) rfl (by (try simp (disch := omega) only [oS_k, oS_o, oS_a, oS_f, oS_n, aS_k, aS_o, aS_a, aS_f, aS_n, fS_k, fS_o, fS_a, fS_f, fS_n, nO_k, nO_o, nO_a, nA_k, nA_o, nA_a, nA_f, nA_n, nF_k, nF_o, nF_a, nF_f, nF_n, Nat.reduceEqDiff, ↓reduceIte, and_true, true_and, and_false, false_and, reduceCtorEq, xl_0, xl_1, xl_2, nI_add, nI_1, nm_2, nm_3, nm_4, nm_6, nm_7, nm_8, nm_12, nm_16, na_0, na_2, na_3, na_4, na_5, na_6, na_7, na_8, nm_p, nm_m, nI_clamp]); first | exact h.sc.o (by decide) rfl | exact h.sc.ob1 (by omega) | exact h.sc.ob2 (by omega) | exact h.sc.ob3 (by omega) | exact h.sc.ot (by omega) | exact h.sc.fb (by omega) | exact h.sc.ft (by omega) (by omega) | exact h.sc.fs (by omega) | exact h.p.1 | exact h.p.2.2.2.2.1 | exact h.p.2.2.2.2.2.1 | exact h.p.2.2.2.2.2.2.1 | exact h.p.2.2.2.2.2.2.2.1 | exact h.p.2.2.2.2.2.2.2.2.1 | exact rfl) dX0_latestDay_17 ?_
    refine x_aload_n hκ dX0_latestDay_20 rfl ?_
    refine c_get hκ kX0 (by (try simp (disch := omega) only [oS_k, oS_o, oS_a, oS_f, oS_n, aS_k, aS_o, aS_a, aS_f, aS_n, fS_k, fS_o, fS_a, fS_f, fS_n, nO_k, nO_o, nO_a, nA_k, nA_o, nA_a, nA_f, nA_n, nF_k, nF_o, nF_a, nF_f, nF_n, Nat.reduceEqDiff, ↓reduceIte, and_true, true_and, and_false, false_and, reduceCtorEq, xl_0, xl_1, xl_2, nI_add, nI_1, nm_2, nm_3, nm_4, nm_6, nm_7, nm_8, nm_12, nm_16, na_0, na_2, na_3, na_4, na_5, na_6, na_7, na_8, nm_p, nm_m, nI_clamp]); first | done | assumption | exact h.sc.k (by decide) | exact h.sc.kb (by omega) | exact h.sc.kbt (by omega) | exact h.sc.kbh (by omega) | exact h.sc.kba (by omega) | exact h.sc.kt (by omega) | exact h.sc.ktl (by omega) | exact h.sc.ks (by omega) | rfl) 0 (by decide) (Or.inl q629) rfl (by (try simp (disch := omega) only [oS_k, oS_o, oS_a, oS_f, oS_n, aS_k, aS_o, aS_a, aS_f, aS_n, fS_k, fS_o, fS_a, fS_f, fS_n, nO_k, nO_o, nO_a, nA_k, nA_o, nA_a, nA_f, nA_n, nF_k, nF_o, nF_a, nF_f, nF_n, Nat.reduceEqDiff, ↓reduceIte, and_true, true_and, and_false, false_and, reduceCtorEq, xl_0, xl_1, xl_2, nI_add, nI_1, nm_2, nm_3, nm_4, nm_6, nm_7, nm_8, nm_12, nm_16, na_0, na_2, na_3, na_4, na_5, na_6, na_7, na_8, nm_p, nm_m, nI_clamp]); first | exact h.sc.o (by decide) rfl | exact h.sc.ob1 (by omega) | exact h.sc.ob2 (by omega) | exact h.sc.ob3 (by omega) | exact h.sc.ot (by omega) | exact h.sc.fb (by omega) | exact h.sc.ft (by omega) (by omega) | exact h.sc.fs (by omega) | exact h.p.1 | exact h.p.2.2.2.2.1 | exact h.p.2.2.2.2.2.1 | exact h.p.2.2.2.2.2.2.1 | exact h.p.2.2.2.2.2.2.2.1 | exact h.p.2.2.2.2.2.2.2.2.1 | exact rfl) dX0_latestDay_21 ?_
    refine c_callF  hκ (mJ2_size h.aL) (by omega) (by decide) vX0_100_J2 fJ2_size kJ2 (by (try simp (disch := omega) only [oS_k, oS_o, oS_a, oS_f, oS_n, aS_k, aS_o, aS_a, aS_f, aS_n, fS_k, fS_o, fS_a, fS_f, fS_n, nO_k, nO_o, nO_a, nA_k, nA_o, nA_a, nA_f, nA_n, nF_k, nF_o, nF_a, nF_f, nF_n, Nat.reduceEqDiff, ↓reduceIte, and_true, true_and, and_false, false_and, reduceCtorEq, xl_0, xl_1, xl_2, nI_add, nI_1, nm_2, nm_3, nm_4, nm_6, nm_7, nm_8, nm_12, nm_16, na_0, na_2, na_3, na_4, na_5, na_6, na_7, na_8, nm_p, nm_m, nI_clamp]); first | done | assumption | exact h.sc.k (by decide) | exact h.sc.kb (by omega) | exact h.sc.kbt (by omega) | exact h.sc.kbh (by omega) | exact h.sc.kba (by omega) | exact h.sc.kt (by omega) | exact h.sc.ktl (by omega) | exact h.sc.ks (by omega) | rfl) rfl (Nat.le_of_ble_eq_true rfl) dX0_latestDay_24 (jIr (fun r24 h24 => ?_))
    subst h24
    refine x_iconst (v := 1) hκ dX0_latestDay_29 (by decide) ?_
    refine x_isubN hκ (by (try simp (disch := omega) only [oS_k, oS_o, oS_a, oS_f, oS_n, aS_k, aS_o, aS_a, aS_f, aS_n, fS_k, fS_o, fS_a, fS_f, fS_n, nO_k, nO_o, nO_a, nA_k, nA_o, nA_a, nA_f, nA_n, nF_k, nF_o, nF_a, nF_f, nF_n, Nat.reduceEqDiff, ↓reduceIte, and_true, true_and, and_false, false_and, reduceCtorEq, xl_0, xl_1, xl_2, nI_add, nI_1, nm_2, nm_3, nm_4, nm_6, nm_7, nm_8, nm_12, nm_16, na_0, na_2, na_3, na_4, na_5, na_6, na_7, na_8, nm_p, nm_m, nI_clamp]); first | exact h.sc.o (by decide) rfl | exact h.sc.ob1 (by omega) | exact h.sc.ob2 (by omega) | exact h.sc.ob3 (by omega) | exact h.sc.ot (by omega) | exact h.sc.fb (by omega) | exact h.sc.ft (by omega) (by omega) | exact h.sc.fs (by omega) | exact h.p.1 | exact h.p.2.2.2.2.1 | exact h.p.2.2.2.2.2.1 | exact h.p.2.2.2.2.2.2.1 | exact h.p.2.2.2.2.2.2.2.1 | exact h.p.2.2.2.2.2.2.2.2.1 | exact rfl) dX0_latestDay_30 ?_
    have hlt : vN γ - 1 < vN γ := by omega
    refine c_callF  hκ (mJ2_get h.aL hlt) (by omega) (by decide) vX0_105_J2 fJ2_get kJ2 (by (try simp (disch := omega) only [oS_k, oS_o, oS_a, oS_f, oS_n, aS_k, aS_o, aS_a, aS_f, aS_n, fS_k, fS_o, fS_a, fS_f, fS_n, nO_k, nO_o, nO_a, nA_k, nA_o, nA_a, nA_f, nA_n, nF_k, nF_o, nF_a, nF_f, nF_n, Nat.reduceEqDiff, ↓reduceIte, and_true, true_and, and_false, false_and, reduceCtorEq, xl_0, xl_1, xl_2, nI_add, nI_1, nm_2, nm_3, nm_4, nm_6, nm_7, nm_8, nm_12, nm_16, na_0, na_2, na_3, na_4, na_5, na_6, na_7, na_8, nm_p, nm_m, nI_clamp]); first | done | assumption | exact h.sc.k (by decide) | exact h.sc.kb (by omega) | exact h.sc.kbt (by omega) | exact h.sc.kbh (by omega) | exact h.sc.kba (by omega) | exact h.sc.kt (by omega) | exact h.sc.ktl (by omega) | exact h.sc.ks (by omega) | rfl) rfl (Nat.le_of_ble_eq_true rfl) dX0_latestDay_31 (jRr (fun r31 h31 => ?_))
    subst h31
    refine c_cast hκ kX16 (by exact (h.lt hlt).1) q559 dX0_latestDay_36 ?_
    refine c_get hκ kX16 (by exact (h.lt hlt).1) 8 (by decide) (Or.inr ⟨_, q767⟩) rfl (by exact ((h.lt hlt).2.2.2 8 (by decide) (by decide))) dX0_latestDay_39 ?_
    refine c_reti hκ hr dX0_latestDay_42 ?_
    unfold lat
    rw [if_neg (by omega), h25, nm_p (by omega), nI_clamp (by omega)]
    exact ⟨rfl, rfl⟩
  · -- X0_latestDay 9F
    have i9 := h4.t c9
    try simp only [Int32.reduceToInt] at i9
    refine x_iconst (v := 0) hκ dX0_latestDay_12 (by decide) ?_
    refine x_goto (tgt := 42) hκ dX0_latestDay_13 (by decide) ?_
    refine c_reti hκ hr dX0_latestDay_42 ?_
    unfold lat
    rw [if_pos (by omega)]
    exact ⟨rfl, rfl⟩
theorem mX0_isFull {E : gE} {L : Nat → Nat} {γ : Gh} {σ : TS} {s : CSt} (h : CW E L γ σ s) : CMg E s yX0_isFull cX0_isFull 1 (some .boolean) 2 0 0 [.ref (L 0)] (qI (fun r s' => Tz (fullP σ) r ∧ s' = s)) := by
  have hN := h.l.2.1
  have h25 := h.l.1
  have h25i : (σ.1 25).toInt = vN γ := by rw [h25, nI_toInt (by omega)]
  refine CMg.of (by decide) (Nat.le_of_ble_eq_true rfl) ?_
  rintro κ rfl hL hκ hr
  refine x_aload_n hκ dX0_isFull_0 rfl ?_
  refine c_get hκ kX0 (by (try simp (disch := omega) only [oS_k, oS_o, oS_a, oS_f, oS_n, aS_k, aS_o, aS_a, aS_f, aS_n, fS_k, fS_o, fS_a, fS_f, fS_n, nO_k, nO_o, nO_a, nA_k, nA_o, nA_a, nA_f, nA_n, nF_k, nF_o, nF_a, nF_f, nF_n, Nat.reduceEqDiff, ↓reduceIte, and_true, true_and, and_false, false_and, reduceCtorEq, xl_0, xl_1, xl_2, nI_add, nI_1, nm_2, nm_3, nm_4, nm_6, nm_7, nm_8, nm_12, nm_16, na_0, na_2, na_3, na_4, na_5, na_6, na_7, na_8, nm_p, nm_m, nI_clamp]); first | done | assumption | exact h.sc.k (by decide) | exact h.sc.kb (by omega) | exact h.sc.kbt (by omega) | exact h.sc.kbh (by omega) | exact h.sc.kba (by omega) | exact h.sc.kt (by omega) | exact h.sc.ktl (by omega) | exact h.sc.ks (by omega) | rfl) 12 (by decide) (Or.inl q641) rfl (by (try simp (disch := omega) only [oS_k, oS_o, oS_a, oS_f, oS_n, aS_k, aS_o, aS_a, aS_f, aS_n, fS_k, fS_o, fS_a, fS_f, fS_n, nO_k, nO_o, nO_a, nA_k, nA_o, nA_a, nA_f, nA_n, nF_k, nF_o, nF_a, nF_f, nF_n, Nat.reduceEqDiff, ↓reduceIte, and_true, true_and, and_false, false_and, reduceCtorEq, xl_0, xl_1, xl_2, nI_add, nI_1, nm_2, nm_3, nm_4, nm_6, nm_7, nm_8, nm_12, nm_16, na_0, na_2, na_3, na_4, na_5, na_6, na_7, na_8, nm_p, nm_m, nI_clamp]); first | exact h.sc.o (by decide) rfl | exact h.sc.ob1 (by omega) | exact h.sc.ob2 (by omega) | exact h.sc.ob3 (by omega) | exact h.sc.ot (by omega) | exact h.sc.fb (by omega) | exact h.sc.ft (by omega) (by omega) | exact h.sc.fs (by omega) | exact h.p.1 | exact h.p.2.2.2.2.1 | exact h.p.2.2.2.2.2.1 | exact h.p.2.2.2.2.2.2.1 | exact h.p.2.2.2.2.2.2.2.1 | exact h.p.2.2.2.2.2.2.2.2.1 | exact rfl) dX0_isFull_1 ?_
  refine x_sipush (v := 180) hκ dX0_isFull_4 (by decide) ?_
  refine x_icmp_gt (tgt := 25) hκ dX0_isFull_7 (by decide) (fun c7 => ?_) (fun c7 => ?_)
  · -- X0_isFull 7T
    have i7 := c7
    simp (disch := omega) only [i32_lt, i32_le, i32_eq, Int32.reduceToInt, nI_toInt] at i7
    refine x_iconst (v := 1) hκ dX0_isFull_25 (by decide) ?_
    refine x_goto (tgt := 30) hκ dX0_isFull_26 (by decide) ?_
    refine c_retz hκ hr dX0_isFull_30 (by first | exact Or.inl rfl | exact Or.inr rfl | assumption) ?_
    exact ⟨Tz1 (Or.inl i7), rfl⟩
  · -- X0_isFull 7F
    have i7 := c7
    simp (disch := omega) only [i32_lt, i32_le, i32_eq, Int32.reduceToInt, nI_toInt] at i7
    refine x_aload_n hκ dX0_isFull_10 rfl ?_
    refine c_get hκ kX0 (by (try simp (disch := omega) only [oS_k, oS_o, oS_a, oS_f, oS_n, aS_k, aS_o, aS_a, aS_f, aS_n, fS_k, fS_o, fS_a, fS_f, fS_n, nO_k, nO_o, nO_a, nA_k, nA_o, nA_a, nA_f, nA_n, nF_k, nF_o, nF_a, nF_f, nF_n, Nat.reduceEqDiff, ↓reduceIte, and_true, true_and, and_false, false_and, reduceCtorEq, xl_0, xl_1, xl_2, nI_add, nI_1, nm_2, nm_3, nm_4, nm_6, nm_7, nm_8, nm_12, nm_16, na_0, na_2, na_3, na_4, na_5, na_6, na_7, na_8, nm_p, nm_m, nI_clamp]); first | done | assumption | exact h.sc.k (by decide) | exact h.sc.kb (by omega) | exact h.sc.kbt (by omega) | exact h.sc.kbh (by omega) | exact h.sc.kba (by omega) | exact h.sc.kt (by omega) | exact h.sc.ktl (by omega) | exact h.sc.ks (by omega) | rfl) 0 (by decide) (Or.inl q629) rfl (by (try simp (disch := omega) only [oS_k, oS_o, oS_a, oS_f, oS_n, aS_k, aS_o, aS_a, aS_f, aS_n, fS_k, fS_o, fS_a, fS_f, fS_n, nO_k, nO_o, nO_a, nA_k, nA_o, nA_a, nA_f, nA_n, nF_k, nF_o, nF_a, nF_f, nF_n, Nat.reduceEqDiff, ↓reduceIte, and_true, true_and, and_false, false_and, reduceCtorEq, xl_0, xl_1, xl_2, nI_add, nI_1, nm_2, nm_3, nm_4, nm_6, nm_7, nm_8, nm_12, nm_16, na_0, na_2, na_3, na_4, na_5, na_6, na_7, na_8, nm_p, nm_m, nI_clamp]); first | exact h.sc.o (by decide) rfl | exact h.sc.ob1 (by omega) | exact h.sc.ob2 (by omega) | exact h.sc.ob3 (by omega) | exact h.sc.ot (by omega) | exact h.sc.fb (by omega) | exact h.sc.ft (by omega) (by omega) | exact h.sc.fs (by omega) | exact h.p.1 | exact h.p.2.2.2.2.1 | exact h.p.2.2.2.2.2.1 | exact h.p.2.2.2.2.2.2.1 | exact h.p.2.2.2.2.2.2.2.1 | exact h.p.2.2.2.2.2.2.2.2.1 | exact rfl) dX0_isFull_11 ?_
    refine c_callF  hκ (mJ2_size h.aL) (by omega) (by decide) vX0_100_J2 fJ2_size kJ2 (by (try simp (disch := omega) only [oS_k, oS_o, oS_a, oS_f, oS_n, aS_k, aS_o, aS_a, aS_f, aS_n, fS_k, fS_o, fS_a, fS_f, fS_n, nO_k, nO_o, nO_a, nA_k, nA_o, nA_a, nA_f, nA_n, nF_k, nF_o, nF_a, nF_f, nF_n, Nat.reduceEqDiff, ↓reduceIte, and_true, true_and, and_false, false_and, reduceCtorEq, xl_0, xl_1, xl_2, nI_add, nI_1, nm_2, nm_3, nm_4, nm_6, nm_7, nm_8, nm_12, nm_16, na_0, na_2, na_3, na_4, na_5, na_6, na_7, na_8, nm_p, nm_m, nI_clamp]); first | done | assumption | exact h.sc.k (by decide) | exact h.sc.kb (by omega) | exact h.sc.kbt (by omega) | exact h.sc.kbh (by omega) | exact h.sc.kba (by omega) | exact h.sc.kt (by omega) | exact h.sc.ktl (by omega) | exact h.sc.ks (by omega) | rfl) rfl (Nat.le_of_ble_eq_true rfl) dX0_isFull_14 (jIr (fun r14 h14 => ?_))
    subst h14
    refine x_sipush (v := 190) hκ dX0_isFull_19 (by decide) ?_
    refine x_icmp_le (tgt := 29) hκ dX0_isFull_22 (by decide) (fun c22 => ?_) (fun c22 => ?_)
    · -- X0_isFull 22T
      have i22 := c22
      simp (disch := omega) only [i32_lt, i32_le, i32_eq, Int32.reduceToInt, nI_toInt] at i22
      refine x_iconst (v := 0) hκ dX0_isFull_29 (by decide) ?_
      refine c_retz hκ hr dX0_isFull_30 (by first | exact Or.inl rfl | exact Or.inr rfl | assumption) ?_
      refine ⟨Tz0 ?_, rfl⟩
      unfold fullP
      omega
    · -- X0_isFull 22F
      have i22 := c22
      simp (disch := omega) only [i32_lt, i32_le, i32_eq, Int32.reduceToInt, nI_toInt] at i22
      refine x_iconst (v := 1) hκ dX0_isFull_25 (by decide) ?_
      refine x_goto (tgt := 30) hκ dX0_isFull_26 (by decide) ?_
      refine c_retz hκ hr dX0_isFull_30 (by first | exact Or.inl rfl | exact Or.inr rfl | assumption) ?_
      refine ⟨Tz1 (Or.inr ?_), rfl⟩
      omega
theorem oX0_letter {E : gE} {L : Nat → Nat} {γ : Gh} {σ : TS} {s : CSt} (h : CW E L γ σ s) {l k : Int32} {r2 : Int32} {σ2 : TS} (h2 : (if (0 ≤ l.toInt ∧ l.toInt < (σ.1 25).toInt) ∧ 0 ≤ k.toInt ∧ k.toInt ≤ 8 then (if k.toInt = 8 then Tz (jk (σ.2 57) (σ.2 58) (σ.2 28 (Int32.toNatClampNeg l))) r2 else r2 = σ.2 (26 + Int32.toNatClampNeg k) (Int32.toNatClampNeg l)) else r2 = -101) ∧ σ2 = σ) : CMg E s yX0_letter cX0_letter 4 (some .int) 4 0 0 [.ref (L 0), .int l, .int k] (cQ E L r2 σ2) := by
  have hN := h.l.2.1
  have h25 := h.l.1
  have h25i : (σ.1 25).toInt = vN γ := by rw [h25, nI_toInt (by omega)]
  obtain ⟨h2, rfl⟩ := h2
  refine CMg.of (by decide) (Nat.le_of_ble_eq_true rfl) ?_
  rintro κ rfl hL hκ hr
  refine x_iload_n hκ dX0_letter_0 rfl ?_
  refine x_iconst (v := 0) hκ dX0_letter_1 (by decide) ?_
  refine x_aload_n hκ dX0_letter_2 rfl ?_
  refine c_get hκ kX0 (by (try simp (disch := omega) only [oS_k, oS_o, oS_a, oS_f, oS_n, aS_k, aS_o, aS_a, aS_f, aS_n, fS_k, fS_o, fS_a, fS_f, fS_n, nO_k, nO_o, nO_a, nA_k, nA_o, nA_a, nA_f, nA_n, nF_k, nF_o, nF_a, nF_f, nF_n, Nat.reduceEqDiff, ↓reduceIte, and_true, true_and, and_false, false_and, reduceCtorEq, xl_0, xl_1, xl_2, nI_add, nI_1, nm_2, nm_3, nm_4, nm_6, nm_7, nm_8, nm_12, nm_16, na_0, na_2, na_3, na_4, na_5, na_6, na_7, na_8, nm_p, nm_m, nI_clamp]); first | done | assumption | exact h.sc.k (by decide) | exact h.sc.kb (by omega) | exact h.sc.kbt (by omega) | exact h.sc.kbh (by omega) | exact h.sc.kba (by omega) | exact h.sc.kt (by omega) | exact h.sc.ktl (by omega) | exact h.sc.ks (by omega) | rfl) 0 (by decide) (Or.inl q629) rfl (by (try simp (disch := omega) only [oS_k, oS_o, oS_a, oS_f, oS_n, aS_k, aS_o, aS_a, aS_f, aS_n, fS_k, fS_o, fS_a, fS_f, fS_n, nO_k, nO_o, nO_a, nA_k, nA_o, nA_a, nA_f, nA_n, nF_k, nF_o, nF_a, nF_f, nF_n, Nat.reduceEqDiff, ↓reduceIte, and_true, true_and, and_false, false_and, reduceCtorEq, xl_0, xl_1, xl_2, nI_add, nI_1, nm_2, nm_3, nm_4, nm_6, nm_7, nm_8, nm_12, nm_16, na_0, na_2, na_3, na_4, na_5, na_6, na_7, na_8, nm_p, nm_m, nI_clamp]); first | exact h.sc.o (by decide) rfl | exact h.sc.ob1 (by omega) | exact h.sc.ob2 (by omega) | exact h.sc.ob3 (by omega) | exact h.sc.ot (by omega) | exact h.sc.fb (by omega) | exact h.sc.ft (by omega) (by omega) | exact h.sc.fs (by omega) | exact h.p.1 | exact h.p.2.2.2.2.1 | exact h.p.2.2.2.2.2.1 | exact h.p.2.2.2.2.2.2.1 | exact h.p.2.2.2.2.2.2.2.1 | exact h.p.2.2.2.2.2.2.2.2.1 | exact rfl) dX0_letter_3 ?_
  refine c_callF  hκ (mJ2_size h.aL) (by omega) (by decide) vX0_100_J2 fJ2_size kJ2 (by (try simp (disch := omega) only [oS_k, oS_o, oS_a, oS_f, oS_n, aS_k, aS_o, aS_a, aS_f, aS_n, fS_k, fS_o, fS_a, fS_f, fS_n, nO_k, nO_o, nO_a, nA_k, nA_o, nA_a, nA_f, nA_n, nF_k, nF_o, nF_a, nF_f, nF_n, Nat.reduceEqDiff, ↓reduceIte, and_true, true_and, and_false, false_and, reduceCtorEq, xl_0, xl_1, xl_2, nI_add, nI_1, nm_2, nm_3, nm_4, nm_6, nm_7, nm_8, nm_12, nm_16, na_0, na_2, na_3, na_4, na_5, na_6, na_7, na_8, nm_p, nm_m, nI_clamp]); first | done | assumption | exact h.sc.k (by decide) | exact h.sc.kb (by omega) | exact h.sc.kbt (by omega) | exact h.sc.kbh (by omega) | exact h.sc.kba (by omega) | exact h.sc.kt (by omega) | exact h.sc.ktl (by omega) | exact h.sc.ks (by omega) | rfl) rfl (Nat.le_of_ble_eq_true rfl) dX0_letter_6 (jIr (fun r6 h6 => ?_))
  subst h6
  refine x_iconst (v := 1) hκ dX0_letter_11 (by decide) ?_
  refine x_isub hκ dX0_letter_12 ?_
  refine x_callSi hκ mX0_isIn (by omega) (by decide) wX0_3 aX0_isIn rfl (Nat.le_of_ble_eq_true rfl) dX0_letter_13 (fun r13 h13 => ?_)
  have e13 : (nI (vN γ) - 1).toInt = (vN γ : Int) - 1 := by rw [i32_sub (by rw [nI_toInt (by omega)]; show _ ≤ _ - (1 : Int); omega) (by rw [nI_toInt (by omega)]; show _ - (1 : Int) < _; omega), nI_toInt (by omega)]; rfl
  rw [e13] at h13
  refine x_if_ne (tgt := 22) hκ dX0_letter_16 (by decide) (fun c16 => ?_) (fun c16 => ?_)
  · -- X0_letter 16T
    have i16 := h13.t c16
    try simp only [Int32.reduceToInt] at i16
    obtain ⟨M, hM, rfl, -⟩ := i32_nat i16
    have hMM : M < vN γ := by omega
    refine x_aload_n hκ dX0_letter_22 rfl ?_
    refine c_get hκ kX0 (by (try simp (disch := omega) only [oS_k, oS_o, oS_a, oS_f, oS_n, aS_k, aS_o, aS_a, aS_f, aS_n, fS_k, fS_o, fS_a, fS_f, fS_n, nO_k, nO_o, nO_a, nA_k, nA_o, nA_a, nA_f, nA_n, nF_k, nF_o, nF_a, nF_f, nF_n, Nat.reduceEqDiff, ↓reduceIte, and_true, true_and, and_false, false_and, reduceCtorEq, xl_0, xl_1, xl_2, nI_add, nI_1, nm_2, nm_3, nm_4, nm_6, nm_7, nm_8, nm_12, nm_16, na_0, na_2, na_3, na_4, na_5, na_6, na_7, na_8, nm_p, nm_m, nI_clamp]); first | done | assumption | exact h.sc.k (by decide) | exact h.sc.kb (by omega) | exact h.sc.kbt (by omega) | exact h.sc.kbh (by omega) | exact h.sc.kba (by omega) | exact h.sc.kt (by omega) | exact h.sc.ktl (by omega) | exact h.sc.ks (by omega) | rfl) 0 (by decide) (Or.inl q629) rfl (by (try simp (disch := omega) only [oS_k, oS_o, oS_a, oS_f, oS_n, aS_k, aS_o, aS_a, aS_f, aS_n, fS_k, fS_o, fS_a, fS_f, fS_n, nO_k, nO_o, nO_a, nA_k, nA_o, nA_a, nA_f, nA_n, nF_k, nF_o, nF_a, nF_f, nF_n, Nat.reduceEqDiff, ↓reduceIte, and_true, true_and, and_false, false_and, reduceCtorEq, xl_0, xl_1, xl_2, nI_add, nI_1, nm_2, nm_3, nm_4, nm_6, nm_7, nm_8, nm_12, nm_16, na_0, na_2, na_3, na_4, na_5, na_6, na_7, na_8, nm_p, nm_m, nI_clamp]); first | exact h.sc.o (by decide) rfl | exact h.sc.ob1 (by omega) | exact h.sc.ob2 (by omega) | exact h.sc.ob3 (by omega) | exact h.sc.ot (by omega) | exact h.sc.fb (by omega) | exact h.sc.ft (by omega) (by omega) | exact h.sc.fs (by omega) | exact h.p.1 | exact h.p.2.2.2.2.1 | exact h.p.2.2.2.2.2.1 | exact h.p.2.2.2.2.2.2.1 | exact h.p.2.2.2.2.2.2.2.1 | exact h.p.2.2.2.2.2.2.2.2.1 | exact rfl) dX0_letter_23 ?_
    refine x_iload_n hκ dX0_letter_26 rfl ?_
    refine c_callF  hκ (mJ2_get h.aL hMM) (by omega) (by decide) vX0_105_J2 fJ2_get kJ2 (by (try simp (disch := omega) only [oS_k, oS_o, oS_a, oS_f, oS_n, aS_k, aS_o, aS_a, aS_f, aS_n, fS_k, fS_o, fS_a, fS_f, fS_n, nO_k, nO_o, nO_a, nA_k, nA_o, nA_a, nA_f, nA_n, nF_k, nF_o, nF_a, nF_f, nF_n, Nat.reduceEqDiff, ↓reduceIte, and_true, true_and, and_false, false_and, reduceCtorEq, xl_0, xl_1, xl_2, nI_add, nI_1, nm_2, nm_3, nm_4, nm_6, nm_7, nm_8, nm_12, nm_16, na_0, na_2, na_3, na_4, na_5, na_6, na_7, na_8, nm_p, nm_m, nI_clamp]); first | done | assumption | exact h.sc.k (by decide) | exact h.sc.kb (by omega) | exact h.sc.kbt (by omega) | exact h.sc.kbh (by omega) | exact h.sc.kba (by omega) | exact h.sc.kt (by omega) | exact h.sc.ktl (by omega) | exact h.sc.ks (by omega) | rfl) rfl (Nat.le_of_ble_eq_true rfl) dX0_letter_27 (jRr (fun r27 h27 => ?_))
    subst h27
    obtain ⟨l1, l2, l3, l4⟩ := h.lt hMM
    refine c_cast hκ kX16 (by exact l1) q559 dX0_letter_32 ?_
    refine x_astore_n hκ dX0_letter_35 (by rw [hL]; decide) rfl ?_
    refine x_iload_n hκ dX0_letter_36 rfl ?_
    refine x_topi (fun s37 es37 => ?_)
    by_cases hs37 : s37.toInt < 0 ∨ 8 < s37.toInt
    · -- X0_letter 37D
      refine x_tableOut (tgt := 142) hκ dX0_letter_37 hs37 (by decide) ?_
      refine x_bipush (v := (-101)) hκ dX0_letter_142 (by decide) ?_
      refine c_reti hκ hr dX0_letter_144 ?_
      subst es37
      rw [if_neg (by omega)] at h2
      exact ⟨h2.symm, γ, h⟩
    · rcases (show s37.toInt = 0 ∨ s37.toInt = 1 ∨ s37.toInt = 2 ∨ s37.toInt = 3 ∨ s37.toInt = 4 ∨ s37.toInt = 5 ∨ s37.toInt = 6 ∨ s37.toInt = 7 ∨ s37.toInt = 8 by omega) with e37 | e37 | e37 | e37 | e37 | e37 | e37 | e37 | e37
      · -- X0_letter 37C0
        refine x_tableIn (off := 51) (tgt := 88) hκ dX0_letter_37 (by rw [e37]; decide) (by rw [e37]; decide) (by rw [e37]; rfl) (by decide) ?_
        refine x_aload_n hκ dX0_letter_88 rfl ?_
        refine c_get hκ kX16 (by exact l1) 1 (by decide) (Or.inr ⟨_, q748⟩) rfl (by exact (l4 1 (by decide) (by decide))) dX0_letter_89 ?_
        refine c_reti hκ hr dX0_letter_92 ?_
        subst es37
        rw [if_pos ⟨by rw [nI_toInt (by omega)]; omega, by omega⟩, if_neg (by omega), nI_clamp (by omega)] at h2
        have e38 := congrArg Int.toNat e37
        rw [i32_cl, e38] at h2
        exact ⟨h2.symm, γ, h⟩
      · -- X0_letter 37C1
        refine x_tableIn (off := 56) (tgt := 93) hκ dX0_letter_37 (by rw [e37]; decide) (by rw [e37]; decide) (by rw [e37]; rfl) (by decide) ?_
        refine x_aload_n hκ dX0_letter_93 rfl ?_
        refine c_get hκ kX16 (by exact l1) 2 (by decide) (Or.inr ⟨_, q750⟩) rfl (by exact (l4 2 (by decide) (by decide))) dX0_letter_94 ?_
        refine c_reti hκ hr dX0_letter_97 ?_
        subst es37
        rw [if_pos ⟨by rw [nI_toInt (by omega)]; omega, by omega⟩, if_neg (by omega), nI_clamp (by omega)] at h2
        have e38 := congrArg Int.toNat e37
        rw [i32_cl, e38] at h2
        exact ⟨h2.symm, γ, h⟩
      · -- X0_letter 37C2
        refine x_tableIn (off := 61) (tgt := 98) hκ dX0_letter_37 (by rw [e37]; decide) (by rw [e37]; decide) (by rw [e37]; rfl) (by decide) ?_
        refine x_aload_n hκ dX0_letter_98 rfl ?_
        refine c_get hκ kX16 (by exact l1) 3 (by decide) (Or.inr ⟨_, q752⟩) rfl (by exact (l4 3 (by decide) (by decide))) dX0_letter_99 ?_
        refine c_reti hκ hr dX0_letter_102 ?_
        subst es37
        rw [if_pos ⟨by rw [nI_toInt (by omega)]; omega, by omega⟩, if_neg (by omega), nI_clamp (by omega)] at h2
        have e38 := congrArg Int.toNat e37
        rw [i32_cl, e38] at h2
        exact ⟨h2.symm, γ, h⟩
      · -- X0_letter 37C3
        refine x_tableIn (off := 66) (tgt := 103) hκ dX0_letter_37 (by rw [e37]; decide) (by rw [e37]; decide) (by rw [e37]; rfl) (by decide) ?_
        refine x_aload_n hκ dX0_letter_103 rfl ?_
        refine c_get hκ kX16 (by exact l1) 4 (by decide) (Or.inr ⟨_, q755⟩) rfl (by exact (l4 4 (by decide) (by decide))) dX0_letter_104 ?_
        refine c_reti hκ hr dX0_letter_107 ?_
        subst es37
        rw [if_pos ⟨by rw [nI_toInt (by omega)]; omega, by omega⟩, if_neg (by omega), nI_clamp (by omega)] at h2
        have e38 := congrArg Int.toNat e37
        rw [i32_cl, e38] at h2
        exact ⟨h2.symm, γ, h⟩
      · -- X0_letter 37C4
        refine x_tableIn (off := 71) (tgt := 108) hκ dX0_letter_37 (by rw [e37]; decide) (by rw [e37]; decide) (by rw [e37]; rfl) (by decide) ?_
        refine x_aload_n hκ dX0_letter_108 rfl ?_
        refine c_get hκ kX16 (by exact l1) 5 (by decide) (Or.inr ⟨_, q758⟩) rfl (by exact (l4 5 (by decide) (by decide))) dX0_letter_109 ?_
        refine c_reti hκ hr dX0_letter_112 ?_
        subst es37
        rw [if_pos ⟨by rw [nI_toInt (by omega)]; omega, by omega⟩, if_neg (by omega), nI_clamp (by omega)] at h2
        have e38 := congrArg Int.toNat e37
        rw [i32_cl, e38] at h2
        exact ⟨h2.symm, γ, h⟩
      · -- X0_letter 37C5
        refine x_tableIn (off := 76) (tgt := 113) hκ dX0_letter_37 (by rw [e37]; decide) (by rw [e37]; decide) (by rw [e37]; rfl) (by decide) ?_
        refine x_aload_n hκ dX0_letter_113 rfl ?_
        refine c_get hκ kX16 (by exact l1) 6 (by decide) (Or.inr ⟨_, q761⟩) rfl (by exact (l4 6 (by decide) (by decide))) dX0_letter_114 ?_
        refine c_reti hκ hr dX0_letter_117 ?_
        subst es37
        rw [if_pos ⟨by rw [nI_toInt (by omega)]; omega, by omega⟩, if_neg (by omega), nI_clamp (by omega)] at h2
        have e38 := congrArg Int.toNat e37
        rw [i32_cl, e38] at h2
        exact ⟨h2.symm, γ, h⟩
      · -- X0_letter 37C6
        refine x_tableIn (off := 81) (tgt := 118) hκ dX0_letter_37 (by rw [e37]; decide) (by rw [e37]; decide) (by rw [e37]; rfl) (by decide) ?_
        refine x_aload_n hκ dX0_letter_118 rfl ?_
        refine c_get hκ kX16 (by exact l1) 7 (by decide) (Or.inr ⟨_, q764⟩) rfl (by exact (l4 7 (by decide) (by decide))) dX0_letter_119 ?_
        refine c_reti hκ hr dX0_letter_122 ?_
        subst es37
        rw [if_pos ⟨by rw [nI_toInt (by omega)]; omega, by omega⟩, if_neg (by omega), nI_clamp (by omega)] at h2
        have e38 := congrArg Int.toNat e37
        rw [i32_cl, e38] at h2
        exact ⟨h2.symm, γ, h⟩
      · -- X0_letter 37C7
        refine x_tableIn (off := 86) (tgt := 123) hκ dX0_letter_37 (by rw [e37]; decide) (by rw [e37]; decide) (by rw [e37]; rfl) (by decide) ?_
        refine x_aload_n hκ dX0_letter_123 rfl ?_
        refine c_get hκ kX16 (by exact l1) 8 (by decide) (Or.inr ⟨_, q767⟩) rfl (by exact (l4 8 (by decide) (by decide))) dX0_letter_124 ?_
        refine c_reti hκ hr dX0_letter_127 ?_
        subst es37
        rw [if_pos ⟨by rw [nI_toInt (by omega)]; omega, by omega⟩, if_neg (by omega), nI_clamp (by omega)] at h2
        have e38 := congrArg Int.toNat e37
        rw [i32_cl, e38] at h2
        exact ⟨h2.symm, γ, h⟩
      · -- X0_letter 37C8
        refine x_tableIn (off := 91) (tgt := 128) hκ dX0_letter_37 (by rw [e37]; decide) (by rw [e37]; decide) (by rw [e37]; rfl) (by decide) ?_
        refine x_aload_n hκ dX0_letter_128 rfl ?_
        refine x_aload_n hκ dX0_letter_129 rfl ?_
        refine c_callV  hκ (mX0_isJunk h hMM) (by omega) (by decide) wX0_380 aX0_isJunk kX0 (by (try simp (disch := omega) only [oS_k, oS_o, oS_a, oS_f, oS_n, aS_k, aS_o, aS_a, aS_f, aS_n, fS_k, fS_o, fS_a, fS_f, fS_n, nO_k, nO_o, nO_a, nA_k, nA_o, nA_a, nA_f, nA_n, nF_k, nF_o, nF_a, nF_f, nF_n, Nat.reduceEqDiff, ↓reduceIte, and_true, true_and, and_false, false_and, reduceCtorEq, xl_0, xl_1, xl_2, nI_add, nI_1, nm_2, nm_3, nm_4, nm_6, nm_7, nm_8, nm_12, nm_16, na_0, na_2, na_3, na_4, na_5, na_6, na_7, na_8, nm_p, nm_m, nI_clamp]); first | done | assumption | exact h.sc.k (by decide) | exact h.sc.kb (by omega) | exact h.sc.kbt (by omega) | exact h.sc.kbh (by omega) | exact h.sc.kba (by omega) | exact h.sc.kt (by omega) | exact h.sc.ktl (by omega) | exact h.sc.ks (by omega) | rfl) rfl (Nat.le_of_ble_eq_true rfl) dX0_letter_130 (jIr (fun r130 h130 => ?_))
        refine x_if_eq (tgt := 140) hκ dX0_letter_133 (by decide) (fun c133 => ?_) (fun c133 => ?_)
        · -- X0_letter 133T
          have i133 := h130.f c133
          try simp only [Int32.reduceToInt] at i133
          refine x_iconst (v := 0) hκ dX0_letter_140 (by decide) ?_
          refine c_reti hκ hr dX0_letter_141 ?_
          subst es37
          rw [if_pos ⟨by rw [nI_toInt (by omega)]; omega, by omega⟩, if_pos e37, nI_clamp (by omega)] at h2
          refine ⟨?_, γ, h⟩
          rcases h2 with ⟨z, z2⟩ | ⟨z, z2⟩
          · exact absurd z2 i133
          · exact z.symm
        · -- X0_letter 133F
          have i133 := h130.t c133
          try simp only [Int32.reduceToInt] at i133
          refine x_iconst (v := 1) hκ dX0_letter_136 (by decide) ?_
          refine x_goto (tgt := 141) hκ dX0_letter_137 (by decide) ?_
          refine c_reti hκ hr dX0_letter_141 ?_
          subst es37
          rw [if_pos ⟨by rw [nI_toInt (by omega)]; omega, by omega⟩, if_pos e37, nI_clamp (by omega)] at h2
          refine ⟨?_, γ, h⟩
          rcases h2 with ⟨z, z2⟩ | ⟨z, z2⟩
          · exact z.symm
          · exact absurd i133 z2
  · -- X0_letter 16F
    have i16 := h13.f c16
    try simp only [Int32.reduceToInt] at i16
    refine x_bipush (v := (-101)) hκ dX0_letter_19 (by decide) ?_
    refine c_reti hκ hr dX0_letter_21 ?_
    rw [if_neg (by rintro ⟨z, -⟩; have e0 : Int32.toInt 0 = 0 := rfl; omega)] at h2
    exact ⟨h2.symm, γ, h⟩
