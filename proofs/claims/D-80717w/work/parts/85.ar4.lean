theorem aX0_willCome : yX0_willCome.cls = RX0 ∧ yX0_willCome.cls ≠ "java/lang/invoke/MethodHandle" ∧ yX0_willCome.cls ≠ "java/lang/invoke/VarHandle" ∧ (parseMethodDescriptor yX0_willCome.desc).map (fun d => d.parameters.length) = some 3 := by decide +kernel
theorem wX5_96 : GoodIn lw_all (wsV RX5 96 RX5 yX5_answer (ws_ yX5_answer cX5_answer 3 none)) := lw_V q879 q881 qs23 q79 q882
theorem aX5_answer : yX5_answer.cls = RX5 ∧ yX5_answer.cls ≠ "java/lang/invoke/MethodHandle" ∧ yX5_answer.cls ≠ "java/lang/invoke/VarHandle" ∧ (parseMethodDescriptor yX5_answer.desc).map (fun d => d.parameters.length) = some 0 := by decide +kernel
/-! the component: one act -/
theorem or_bit {x y : Int32} {k : Nat} (hk : k < 32) : ((x ||| y) >>> (nI k &&& 31)) &&& 1 = 0 ↔ (x >>> (nI k &&& 31)) &&& 1 = 0 ∧ (y >>> (nI k &&& 31)) &&& 1 = 0 := by
  rw [bit_0 hk, bit_0 hk, bit_0 hk, b_or, Bool.or_eq_false_iff]
theorem mX5_act {E : gE} {L : Nat → Nat} {γ : Gh} {σ : TS} {c : Int32} {τ : TS} {l b : Nat} {tr z : Int32} {s : CSt} (h : RnI E L γ σ c τ l b tr z s) {n8 n : Nat} (hC : CI σ n8 n l b tr τ) (hn : n = vN γ) (hl : l < n) (hb : b < 3) (hA : Aw σ n) (hrow : rowOk σ l) (hn8 : n8 ≤ 61) {x y cd : Int32} (hx : acA x y cd) : CMg E s yX5_act cX5_act 4 none 3 0 0 [.ref (L 44), .int x, .int y] (qV (RnI E L γ σ c (actsS τ cd l b tr) l b tr (if cd = 10 then 1 else z))) := by
  obtain ⟨h0, hq, ha⟩ := id h
  obtain ⟨a1, a2, a3, a4, a5, a6, a7, a8, a9⟩ := ha
  have k44 := h0.sc.k (r := 44) (by decide)
  rcases hx with ⟨rfl, z1, z2, rfl⟩ | ⟨rfl, rfl⟩ | ⟨rfl, z1, z2, rfl⟩ | ⟨rfl, rfl⟩ | ⟨rfl, rfl⟩ | ⟨rfl, rfl⟩ | ⟨rfl, rfl⟩
  · have e : actsS τ y l b tr = tS τ 49 (τ.1 49 ||| (1 <<< (y &&& 31))) := by unfold actsS; rw [if_pos (by rw [i32_lt]; show _ < (4 : Int); omega)]
    rw [e, if_neg (by rintro rfl; exact absurd z2 (by decide))]
    refine CMg.of (by decide) (Nat.le_of_ble_eq_true rfl) ?_
    rintro κ rfl hL hκ hr
    refine x_iload_n hκ dX5_act_0 rfl ?_
    refine x_tableIn (off := 91) (tgt := 92) hκ dX5_act_1 (by decide) (by decide) rfl (by decide) ?_
    refine x_aload_n hκ dX5_act_92 rfl ?_
    refine x_dup hκ dX5_act_93 rfl ?_
    refine c_get hκ kX5 (by exact k44) 4 (by decide) (Or.inl q573) rfl (by exact a4) dX5_act_94 ?_
    refine x_iconst (v := 1) hκ dX5_act_97 (by decide) ?_
    refine x_iload_n hκ dX5_act_98 rfl ?_
    refine x_ishl hκ dX5_act_99 ?_
    refine x_ior hκ dX5_act_100 ?_
    refine c_put hκ kX5 (by exact k44) 4 (by decide) (Or.inl q573) rfl rfl (by rfl) (by rfl) dX5_act_101 ?_
    refine x_goto (tgt := 247) hκ dX5_act_104 (by decide) ?_
    refine c_retv hκ hr dX5_act_247 ?_
    refine ⟨(h0.a44 (k := 4) (by decide) _).fr (und_fr ((Fr.rf [49] τ).S rfl _)) (by decide), (hq.a44 h0.sc _).sg rfl rfl rfl rfl, ?_⟩
    unfold ArA
    simp only [oS_o, true_and, Nat.reduceEqDiff, ↓reduceIte]
    exact ⟨a1, a2, a3, rfl, a5, a6, a7, a8, a9⟩
  · have e : actsS τ 0 l b tr = tS τ 49 (τ.1 49 ||| 1) := by unfold actsS; rw [if_pos (by decide)]; rfl
    rw [e, if_neg (by decide)]
    refine CMg.of (by decide) (Nat.le_of_ble_eq_true rfl) ?_
    rintro κ rfl hL hκ hr
    refine x_iload_n hκ dX5_act_0 rfl ?_
    refine x_tableIn (off := 106) (tgt := 107) hκ dX5_act_1 (by decide) (by decide) rfl (by decide) ?_
    refine x_aload_n hκ dX5_act_107 rfl ?_
    refine x_dup hκ dX5_act_108 rfl ?_
    refine c_get hκ kX5 (by exact k44) 4 (by decide) (Or.inl q573) rfl (by exact a4) dX5_act_109 ?_
    refine x_iconst (v := 1) hκ dX5_act_112 (by decide) ?_
    refine x_ior hκ dX5_act_113 ?_
    refine c_put hκ kX5 (by exact k44) 4 (by decide) (Or.inl q573) rfl rfl (by rfl) (by rfl) dX5_act_114 ?_
    refine x_goto (tgt := 247) hκ dX5_act_117 (by decide) ?_
    refine c_retv hκ hr dX5_act_247 ?_
    refine ⟨(h0.a44 (k := 4) (by decide) _).fr (und_fr ((Fr.rf [49] τ).S rfl _)) (by decide), (hq.a44 h0.sc _).sg rfl rfl rfl rfl, ?_⟩
    unfold ArA
    simp only [oS_o, true_and, Nat.reduceEqDiff, ↓reduceIte]
    exact ⟨a1, a2, a3, rfl, a5, a6, a7, a8, a9⟩
  · obtain ⟨K, hK, rfl, -⟩ := i32_nat (x := cd) (m := 6) ⟨by omega, z2⟩
    rw [nI_toInt (by omega)] at z1
    rw [show nI K - 4 = nI (K - 4) from pk_sub (a := K) (b := 4) (by omega), if_neg (by intro q; have e := nI_toInt (n := K) (by omega); rw [q] at e; simp only [Int32.reduceToInt] at e; omega)]
    obtain ⟨O, hO⟩ : ∃ O, O = K - 4 := ⟨_, rfl⟩
    rw [← hO]
    have hO3 : O < 3 := by omega
    have e : actsS τ (nI K) l b tr = if ¬ nI O = nI b ∧ (tr >>> (nI O &&& 31)) &&& 1 = 0 ∧ (τ.1 50 >>> (nI O &&& 31)) &&& 1 = 0 then toComeS (tS (tS τ 50 (τ.1 50 ||| (1 <<< (nI O &&& 31)))) 36 (τ.1 36 + 1)) (Int32.toNatClampNeg (τ.1 48)) (nI l) (nI O) (tr ||| (1 <<< (nI b &&& 31))) else τ := by
      unfold actsS
      rw [if_neg (by rw [i32_lt, nI_toInt (by omega)]; show ¬ _ < (4 : Int); omega), if_pos (by rw [i32_lt, nI_toInt (by omega)]; show _ < (7 : Int); omega), show nI K - 4 = nI (K - 4) from pk_sub (a := K) (b := 4) (by omega), ← hO]
    rw [e]
    have hnum := h0.sc.2.2.2.2.1 b hb
    have e36 : s.2.1 (L 0) 13 = .int (τ.1 36) := h0.p.2.2.2.2.2.1
    obtain ⟨k8, e48, g1, g2, g3, g4⟩ := hC.2.1
    have hfr := fr_le (x := tr) hb
    have e8 : Int32.toNatClampNeg (τ.1 48) = k8 := by rw [e48]; exact nI_clamp (by omega)
    refine CMg.of (by decide) (Nat.le_of_ble_eq_true rfl) ?_
    rintro κ rfl hL hκ hr
    have go : ∀ zc : Int32, Tz (¬ nI O = nI b ∧ (tr >>> (nI O &&& 31)) &&& 1 = 0 ∧ (τ.1 50 >>> (nI O &&& 31)) &&& 1 = 0) zc → X κ (sG (kE κ) s) 0 0 152 [some (.ref (L 44)), some (.int 71), some (.int (nI O)), none] [.int zc] := by
      intro zc hz
      refine x_istore_n hκ dX5_act_152 (by rw [hL]; decide) rfl ?_
      refine x_aload_n hκ dX5_act_153 rfl ?_
      refine x_dup hκ dX5_act_154 rfl ?_
      refine c_get hκ kX5 (by (try simp (disch := omega) only [oS_k, oS_o, oS_a, oS_f, oS_n, aS_k, aS_o, aS_a, aS_f, aS_n, fS_k, fS_o, fS_a, fS_f, fS_n, nO_k, nO_o, nO_a, nA_k, nA_o, nA_a, nA_f, nA_n, nF_k, nF_o, nF_a, nF_f, nF_n, Nat.reduceEqDiff, ↓reduceIte, and_true, true_and, and_false, false_and, reduceCtorEq, xl_0, xl_1, xl_2, nI_add, nI_1, nm_2, nm_3, nm_4, nm_6, nm_7, nm_8, nm_12, nm_16, na_0, na_2, na_3, na_4, na_5, na_6, na_7, na_8, nm_p, nm_m, nI_clamp]); first | done | assumption | exact h0.sc.k (by decide) | exact h0.sc.kb (by omega) | exact h0.sc.kbt (by omega) | exact h0.sc.kbh (by omega) | exact h0.sc.kba (by omega) | exact h0.sc.kt (by omega) | exact h0.sc.ktl (by omega) | exact h0.sc.ks (by omega) | rfl) 5 (by decide) (Or.inl q575) rfl (by exact a5) dX5_act_155 ?_
      refine x_iload_n hκ dX5_act_158 rfl ?_
      refine x_if_eq (tgt := 168) hκ dX5_act_159 (by decide) (fun c159 => ?_) (fun c159 => ?_)
      · -- X5_act 159T
        have i159 := c159
        simp (disch := omega) only [i32_lt, i32_le, i32_eq, Int32.reduceToInt, nI_toInt] at i159
        refine x_iconst (v := 0) hκ dX5_act_168 (by decide) ?_
        refine x_ior hκ dX5_act_169 ?_
        refine c_put hκ kX5 (by (try simp (disch := omega) only [oS_k, oS_o, oS_a, oS_f, oS_n, aS_k, aS_o, aS_a, aS_f, aS_n, fS_k, fS_o, fS_a, fS_f, fS_n, nO_k, nO_o, nO_a, nA_k, nA_o, nA_a, nA_f, nA_n, nF_k, nF_o, nF_a, nF_f, nF_n, Nat.reduceEqDiff, ↓reduceIte, and_true, true_and, and_false, false_and, reduceCtorEq, xl_0, xl_1, xl_2, nI_add, nI_1, nm_2, nm_3, nm_4, nm_6, nm_7, nm_8, nm_12, nm_16, na_0, na_2, na_3, na_4, na_5, na_6, na_7, na_8, nm_p, nm_m, nI_clamp]); first | done | assumption | exact h0.sc.k (by decide) | exact h0.sc.kb (by omega) | exact h0.sc.kbt (by omega) | exact h0.sc.kbh (by omega) | exact h0.sc.kba (by omega) | exact h0.sc.kt (by omega) | exact h0.sc.ktl (by omega) | exact h0.sc.ks (by omega) | rfl) 5 (by decide) (Or.inl q575) rfl rfl (by rfl) (by rfl) dX5_act_170 ?_
        refine x_iload_n hκ dX5_act_173 rfl ?_
        refine x_if_eq (tgt := 247) hκ dX5_act_174 (by decide) (fun c174 => ?_) (fun c174 => ?_)
        · -- X5_act 174T
          have i174 := c174
          simp (disch := omega) only [i32_lt, i32_le, i32_eq, Int32.reduceToInt, nI_toInt] at i174
          refine c_retv hκ hr dX5_act_247 ?_
          rw [if_neg (hz.f c159)]
          refine ⟨h0.a44 (k := 5) (by decide) _, hq.a44 h0.sc _, ?_⟩
          unfold ArA
          simp only [oS_o, true_and, Nat.reduceEqDiff, ↓reduceIte, or_0]
          exact ⟨a1, a2, a3, a4, a6, a7, a8, a9⟩
        · -- X5_act 174F
          have i174 := c174
          simp (disch := omega) only [i32_lt, i32_le, i32_eq, Int32.reduceToInt, nI_toInt] at i174
          exact absurd c159 c174
      · -- X5_act 159F
        have i159 := c159
        simp (disch := omega) only [i32_lt, i32_le, i32_eq, Int32.reduceToInt, nI_toInt] at i159
        refine x_iconst (v := 1) hκ dX5_act_162 (by decide) ?_
        refine x_iload_n hκ dX5_act_163 rfl ?_
        refine x_ishl hκ dX5_act_164 ?_
        refine x_goto (tgt := 169) hκ dX5_act_165 (by decide) ?_
        refine x_ior hκ dX5_act_169 ?_
        refine c_put hκ kX5 (by (try simp (disch := omega) only [oS_k, oS_o, oS_a, oS_f, oS_n, aS_k, aS_o, aS_a, aS_f, aS_n, fS_k, fS_o, fS_a, fS_f, fS_n, nO_k, nO_o, nO_a, nA_k, nA_o, nA_a, nA_f, nA_n, nF_k, nF_o, nF_a, nF_f, nF_n, Nat.reduceEqDiff, ↓reduceIte, and_true, true_and, and_false, false_and, reduceCtorEq, xl_0, xl_1, xl_2, nI_add, nI_1, nm_2, nm_3, nm_4, nm_6, nm_7, nm_8, nm_12, nm_16, na_0, na_2, na_3, na_4, na_5, na_6, na_7, na_8, nm_p, nm_m, nI_clamp]); first | done | assumption | exact h0.sc.k (by decide) | exact h0.sc.kb (by omega) | exact h0.sc.kbt (by omega) | exact h0.sc.kbh (by omega) | exact h0.sc.kba (by omega) | exact h0.sc.kt (by omega) | exact h0.sc.ktl (by omega) | exact h0.sc.ks (by omega) | rfl) 5 (by decide) (Or.inl q575) rfl rfl (by rfl) (by rfl) dX5_act_170 ?_
        refine x_iload_n hκ dX5_act_173 rfl ?_
        refine x_if_eq (tgt := 247) hκ dX5_act_174 (by decide) (fun c174 => ?_) (fun c174 => ?_)
        · -- X5_act 174T
          have i174 := c174
          simp (disch := omega) only [i32_lt, i32_le, i32_eq, Int32.reduceToInt, nI_toInt] at i174
          exact absurd c174 c159
        · -- X5_act 174F
          have i174 := c174
          simp (disch := omega) only [i32_lt, i32_le, i32_eq, Int32.reduceToInt, nI_toInt] at i174
          have hP := hz.t c159
          have h1 := (h0.a44 (k := 5) (by decide) (.int (τ.1 50 ||| (1 <<< (nI O &&& 31))))).fr (und_fr (σ := σ) ((Fr.rf [50] τ).S (k := 50) rfl (τ.1 50 ||| (1 <<< (nI O &&& 31))))) (by decide)
          have hq1 := (hq.a44 h0.sc (k := 5) (.int (τ.1 50 ||| (1 <<< (nI O &&& 31))))).sg (τ' := tS τ 50 (τ.1 50 ||| (1 <<< (nI O &&& 31)))) rfl rfl rfl rfl
          refine x_aload_n hκ dX5_act_177 rfl ?_
          refine c_get hκ kX5 (by (try simp (disch := omega) only [oS_k, oS_o, oS_a, oS_f, oS_n, aS_k, aS_o, aS_a, aS_f, aS_n, fS_k, fS_o, fS_a, fS_f, fS_n, nO_k, nO_o, nO_a, nA_k, nA_o, nA_a, nA_f, nA_n, nF_k, nF_o, nF_a, nF_f, nF_n, Nat.reduceEqDiff, ↓reduceIte, and_true, true_and, and_false, false_and, reduceCtorEq, xl_0, xl_1, xl_2, nI_add, nI_1, nm_2, nm_3, nm_4, nm_6, nm_7, nm_8, nm_12, nm_16, na_0, na_2, na_3, na_4, na_5, na_6, na_7, na_8, nm_p, nm_m, nI_clamp]); first | done | assumption | exact h0.sc.k (by decide) | exact h0.sc.kb (by omega) | exact h0.sc.kbt (by omega) | exact h0.sc.kbh (by omega) | exact h0.sc.kba (by omega) | exact h0.sc.kt (by omega) | exact h0.sc.ktl (by omega) | exact h0.sc.ks (by omega) | rfl) 0 (by decide) (Or.inl q567) rfl (by (try simp (disch := omega) only [oS_k, oS_o, oS_a, oS_f, oS_n, aS_k, aS_o, aS_a, aS_f, aS_n, fS_k, fS_o, fS_a, fS_f, fS_n, nO_k, nO_o, nO_a, nA_k, nA_o, nA_a, nA_f, nA_n, nF_k, nF_o, nF_a, nF_f, nF_n, Nat.reduceEqDiff, ↓reduceIte, and_true, true_and, and_false, false_and, reduceCtorEq, xl_0, xl_1, xl_2, nI_add, nI_1, nm_2, nm_3, nm_4, nm_6, nm_7, nm_8, nm_12, nm_16, na_0, na_2, na_3, na_4, na_5, na_6, na_7, na_8, nm_p, nm_m, nI_clamp]); first | exact h0.sc.o (by decide) rfl | exact h0.sc.ob1 (by omega) | exact h0.sc.ob2 (by omega) | exact h0.sc.ob3 (by omega) | exact h0.sc.ot (by omega) | exact h0.sc.fb (by omega) | exact h0.sc.ft (by omega) (by omega) | exact h0.sc.fs (by omega) | exact h0.p.1 | exact h0.p.2.2.2.2.1 | exact h0.p.2.2.2.2.2.1 | exact h0.p.2.2.2.2.2.2.1 | exact h0.p.2.2.2.2.2.2.2.1 | exact h0.p.2.2.2.2.2.2.2.2.1 | exact rfl) dX5_act_178 ?_
          refine x_aload_n hκ dX5_act_181 rfl ?_
          refine c_get hκ kX5 (by (try simp (disch := omega) only [oS_k, oS_o, oS_a, oS_f, oS_n, aS_k, aS_o, aS_a, aS_f, aS_n, fS_k, fS_o, fS_a, fS_f, fS_n, nO_k, nO_o, nO_a, nA_k, nA_o, nA_a, nA_f, nA_n, nF_k, nF_o, nF_a, nF_f, nF_n, Nat.reduceEqDiff, ↓reduceIte, and_true, true_and, and_false, false_and, reduceCtorEq, xl_0, xl_1, xl_2, nI_add, nI_1, nm_2, nm_3, nm_4, nm_6, nm_7, nm_8, nm_12, nm_16, na_0, na_2, na_3, na_4, na_5, na_6, na_7, na_8, nm_p, nm_m, nI_clamp]); first | done | assumption | exact h0.sc.k (by decide) | exact h0.sc.kb (by omega) | exact h0.sc.kbt (by omega) | exact h0.sc.kbh (by omega) | exact h0.sc.kba (by omega) | exact h0.sc.kt (by omega) | exact h0.sc.ktl (by omega) | exact h0.sc.ks (by omega) | rfl) 1 (by decide) (Or.inl q568) rfl (by exact ((oS_o.trans (if_neg (by omega))).trans a1)) dX5_act_182 ?_
          refine x_iload_n hκ dX5_act_185 rfl ?_
          refine x_aload_n hκ dX5_act_186 rfl ?_
          refine c_get hκ kX5 (by (try simp (disch := omega) only [oS_k, oS_o, oS_a, oS_f, oS_n, aS_k, aS_o, aS_a, aS_f, aS_n, fS_k, fS_o, fS_a, fS_f, fS_n, nO_k, nO_o, nO_a, nA_k, nA_o, nA_a, nA_f, nA_n, nF_k, nF_o, nF_a, nF_f, nF_n, Nat.reduceEqDiff, ↓reduceIte, and_true, true_and, and_false, false_and, reduceCtorEq, xl_0, xl_1, xl_2, nI_add, nI_1, nm_2, nm_3, nm_4, nm_6, nm_7, nm_8, nm_12, nm_16, na_0, na_2, na_3, na_4, na_5, na_6, na_7, na_8, nm_p, nm_m, nI_clamp]); first | done | assumption | exact h0.sc.k (by decide) | exact h0.sc.kb (by omega) | exact h0.sc.kbt (by omega) | exact h0.sc.kbh (by omega) | exact h0.sc.kba (by omega) | exact h0.sc.kt (by omega) | exact h0.sc.ktl (by omega) | exact h0.sc.ks (by omega) | rfl) 3 (by decide) (Or.inl q572) rfl (by exact ((oS_o.trans (if_neg (by omega))).trans a3)) dX5_act_187 ?_
          refine x_iconst (v := 1) hκ dX5_act_190 (by decide) ?_
          refine x_aload_n hκ dX5_act_191 rfl ?_
          refine c_get hκ kX5 (by (try simp (disch := omega) only [oS_k, oS_o, oS_a, oS_f, oS_n, aS_k, aS_o, aS_a, aS_f, aS_n, fS_k, fS_o, fS_a, fS_f, fS_n, nO_k, nO_o, nO_a, nA_k, nA_o, nA_a, nA_f, nA_n, nF_k, nF_o, nF_a, nF_f, nF_n, Nat.reduceEqDiff, ↓reduceIte, and_true, true_and, and_false, false_and, reduceCtorEq, xl_0, xl_1, xl_2, nI_add, nI_1, nm_2, nm_3, nm_4, nm_6, nm_7, nm_8, nm_12, nm_16, na_0, na_2, na_3, na_4, na_5, na_6, na_7, na_8, nm_p, nm_m, nI_clamp]); first | done | assumption | exact h0.sc.k (by decide) | exact h0.sc.kb (by omega) | exact h0.sc.kbt (by omega) | exact h0.sc.kbh (by omega) | exact h0.sc.kba (by omega) | exact h0.sc.kt (by omega) | exact h0.sc.ktl (by omega) | exact h0.sc.ks (by omega) | rfl) 2 (by decide) (Or.inl q570) rfl (by exact ((oS_o.trans (if_neg (by omega))).trans a2)) dX5_act_192 ?_
          refine c_get hκ kX2 (by exact (h1.sc.kb hb)) 0 (by decide) (Or.inr ⟨_, q531⟩) rfl (by exact (h1.sc.2.2.2.2.1 b hb)) dX5_act_195 ?_
          refine x_ishl hκ dX5_act_198 ?_
          refine x_ior hκ dX5_act_199 ?_
          refine c_callVN  hκ (mX0_willCome (d := 0) h1 hq1 (m := k8) e48 (by omega) (by omega)) (by omega) (by decide) q798 q69 q878 q797 qs20 aX0_willCome kX0 (by exact (h1.sc.k (r := 0) (by decide))) rfl (Nat.le_of_ble_eq_true rfl) dX5_act_200 (jV (fun s200 h200 => ?_))
          obtain ⟨w1, w2, w3, w4⟩ := h200
          refine x_aload_n hκ dX5_act_203 rfl ?_
          refine c_get hκ kX5 (by exact (w1.sc.k (r := 44) (by decide))) 0 (by decide) (Or.inl q567) rfl (by exact (w1.sc.o (r := 44) (k := 0) (by decide) rfl)) dX5_act_204 ?_
          refine x_dup hκ dX5_act_207 rfl ?_
          refine c_get hκ kX0 (by exact (w1.sc.k (r := 0) (by decide))) 13 (by decide) (Or.inr ⟨_, q642⟩) rfl (by exact ((w4 13 (by decide)).trans ((oS_o.trans (if_neg (fun q => h0.sc.ne (by decide) (by decide) (by decide) q.1))).trans e36))) dX5_act_208 ?_
          refine x_iconst (v := 1) hκ dX5_act_211 (by decide) ?_
          refine x_iadd hκ dX5_act_212 ?_
          refine c_put hκ kX0 (by exact (w1.sc.k (r := 0) (by decide))) 13 (by decide) (Or.inr ⟨_, q642⟩) rfl rfl (by rfl) (by rfl) dX5_act_213 ?_
          refine x_goto (tgt := 247) hκ dX5_act_216 (by decide) ?_
          refine c_retv hκ hr dX5_act_247 ?_
          rw [if_pos hP, e8]
          have n1 := w1.num (k := 13) (k2 := 36) (Or.inr (Or.inl ⟨rfl, rfl⟩)) (τ.1 36 + 1)
          rw [← und_S (by decide) (by decide)] at n1
          refine ⟨n1.fr (S := [45, 46, 47, 48]) (und_fr ((((Fr.rf _ _).A rfl _ _).A rfl _ _).A rfl _ _ |>.S rfl _)) (by decide), (w2.o0 (by decide) _).sg rfl rfl rfl rfl, ?_⟩
          have ne : ¬ L 44 = L 0 := h0.sc.ne (by decide) (by decide) (by decide)
          unfold ArA
          simp only [oS_o, w3, ne, true_and, false_and, Nat.reduceEqDiff, ↓reduceIte]
          exact ⟨a1, a2, a3, a4, rfl, a6, a7, a8, a9⟩
    refine x_iload_n hκ dX5_act_0 rfl ?_
    refine x_tableIn (off := 119) (tgt := 120) hκ dX5_act_1 (by decide) (by decide) rfl (by decide) ?_
    refine x_iload_n hκ dX5_act_120 rfl ?_
    refine x_aload_n hκ dX5_act_121 rfl ?_
    refine c_get hκ kX5 (by (try simp (disch := omega) only [oS_k, oS_o, oS_a, oS_f, oS_n, aS_k, aS_o, aS_a, aS_f, aS_n, fS_k, fS_o, fS_a, fS_f, fS_n, nO_k, nO_o, nO_a, nA_k, nA_o, nA_a, nA_f, nA_n, nF_k, nF_o, nF_a, nF_f, nF_n, Nat.reduceEqDiff, ↓reduceIte, and_true, true_and, and_false, false_and, reduceCtorEq, xl_0, xl_1, xl_2, nI_add, nI_1, nm_2, nm_3, nm_4, nm_6, nm_7, nm_8, nm_12, nm_16, na_0, na_2, na_3, na_4, na_5, na_6, na_7, na_8, nm_p, nm_m, nI_clamp]); first | done | assumption | exact h0.sc.k (by decide) | exact h0.sc.kb (by omega) | exact h0.sc.kbt (by omega) | exact h0.sc.kbh (by omega) | exact h0.sc.kba (by omega) | exact h0.sc.kt (by omega) | exact h0.sc.ktl (by omega) | exact h0.sc.ks (by omega) | rfl) 2 (by decide) (Or.inl q570) rfl (by exact a2) dX5_act_122 ?_
    refine c_get hκ kX2 (by (try simp (disch := omega) only [oS_k, oS_o, oS_a, oS_f, oS_n, aS_k, aS_o, aS_a, aS_f, aS_n, fS_k, fS_o, fS_a, fS_f, fS_n, nO_k, nO_o, nO_a, nA_k, nA_o, nA_a, nA_f, nA_n, nF_k, nF_o, nF_a, nF_f, nF_n, Nat.reduceEqDiff, ↓reduceIte, and_true, true_and, and_false, false_and, reduceCtorEq, xl_0, xl_1, xl_2, nI_add, nI_1, nm_2, nm_3, nm_4, nm_6, nm_7, nm_8, nm_12, nm_16, na_0, na_2, na_3, na_4, na_5, na_6, na_7, na_8, nm_p, nm_m, nI_clamp]); first | done | assumption | exact h0.sc.k (by decide) | exact h0.sc.kb (by omega) | exact h0.sc.kbt (by omega) | exact h0.sc.kbh (by omega) | exact h0.sc.kba (by omega) | exact h0.sc.kt (by omega) | exact h0.sc.ktl (by omega) | exact h0.sc.ks (by omega) | rfl) 0 (by decide) (Or.inr ⟨_, q531⟩) rfl (by exact hnum) dX5_act_125 ?_
    refine x_icmp_eq (tgt := 151) hκ dX5_act_128 (by decide) (fun c128 => ?_) (fun c128 => ?_)
    · -- X5_act 128T
      have i128 := c128
      simp (disch := omega) only [i32_lt, i32_le, i32_eq, Int32.reduceToInt, nI_toInt] at i128
      refine x_iconst (v := 0) hκ dX5_act_151 (by decide) ?_
      exact go 0 (Tz0 (fun q => q.1 c128))
    · -- X5_act 128F
      have i128 := c128
      simp (disch := omega) only [i32_lt, i32_le, i32_eq, Int32.reduceToInt, nI_toInt] at i128
      refine x_aload_n hκ dX5_act_131 rfl ?_
      refine c_get hκ kX5 (by (try simp (disch := omega) only [oS_k, oS_o, oS_a, oS_f, oS_n, aS_k, aS_o, aS_a, aS_f, aS_n, fS_k, fS_o, fS_a, fS_f, fS_n, nO_k, nO_o, nO_a, nA_k, nA_o, nA_a, nA_f, nA_n, nF_k, nF_o, nF_a, nF_f, nF_n, Nat.reduceEqDiff, ↓reduceIte, and_true, true_and, and_false, false_and, reduceCtorEq, xl_0, xl_1, xl_2, nI_add, nI_1, nm_2, nm_3, nm_4, nm_6, nm_7, nm_8, nm_12, nm_16, na_0, na_2, na_3, na_4, na_5, na_6, na_7, na_8, nm_p, nm_m, nI_clamp]); first | done | assumption | exact h0.sc.k (by decide) | exact h0.sc.kb (by omega) | exact h0.sc.kbt (by omega) | exact h0.sc.kbh (by omega) | exact h0.sc.kba (by omega) | exact h0.sc.kt (by omega) | exact h0.sc.ktl (by omega) | exact h0.sc.ks (by omega) | rfl) 3 (by decide) (Or.inl q572) rfl (by exact a3) dX5_act_132 ?_
      refine x_aload_n hκ dX5_act_135 rfl ?_
      refine c_get hκ kX5 (by (try simp (disch := omega) only [oS_k, oS_o, oS_a, oS_f, oS_n, aS_k, aS_o, aS_a, aS_f, aS_n, fS_k, fS_o, fS_a, fS_f, fS_n, nO_k, nO_o, nO_a, nA_k, nA_o, nA_a, nA_f, nA_n, nF_k, nF_o, nF_a, nF_f, nF_n, Nat.reduceEqDiff, ↓reduceIte, and_true, true_and, and_false, false_and, reduceCtorEq, xl_0, xl_1, xl_2, nI_add, nI_1, nm_2, nm_3, nm_4, nm_6, nm_7, nm_8, nm_12, nm_16, na_0, na_2, na_3, na_4, na_5, na_6, na_7, na_8, nm_p, nm_m, nI_clamp]); first | done | assumption | exact h0.sc.k (by decide) | exact h0.sc.kb (by omega) | exact h0.sc.kbt (by omega) | exact h0.sc.kbh (by omega) | exact h0.sc.kba (by omega) | exact h0.sc.kt (by omega) | exact h0.sc.ktl (by omega) | exact h0.sc.ks (by omega) | rfl) 5 (by decide) (Or.inl q575) rfl (by exact a5) dX5_act_136 ?_
      refine x_ior hκ dX5_act_139 ?_
      refine x_iload_n hκ dX5_act_140 rfl ?_
      refine x_ishr hκ dX5_act_141 ?_
      refine x_iconst (v := 1) hκ dX5_act_142 (by decide) ?_
      refine x_iand hκ dX5_act_143 ?_
      refine x_if_ne (tgt := 151) hκ dX5_act_144 (by decide) (fun c144 => ?_) (fun c144 => ?_)
      · -- X5_act 144T
        have i144 := c144
        simp (disch := omega) only [i32_lt, i32_le, i32_eq, Int32.reduceToInt, nI_toInt] at i144
        refine x_iconst (v := 0) hκ dX5_act_151 (by decide) ?_
        exact go 0 (Tz0 (fun q => c144 ((or_bit (by omega)).mpr q.2)))
      · -- X5_act 144F
        have i144 := c144
        simp (disch := omega) only [i32_lt, i32_le, i32_eq, Int32.reduceToInt, nI_toInt] at i144
        refine x_iconst (v := 1) hκ dX5_act_147 (by decide) ?_
        refine x_goto (tgt := 152) hκ dX5_act_148 (by decide) ?_
        exact go 1 (Tz1 ⟨c128, (or_bit (by omega)).mp c144⟩)
  · have e : actsS τ 7 l b tr = tS τ 51 1 := by unfold actsS; rw [if_neg (by decide), if_neg (by decide), if_pos rfl]
    rw [e, if_neg (by decide)]
    refine CMg.of (by decide) (Nat.le_of_ble_eq_true rfl) ?_
    rintro κ rfl hL hκ hr
    refine x_iload_n hκ dX5_act_0 rfl ?_
    refine x_tableIn (off := 218) (tgt := 219) hκ dX5_act_1 (by decide) (by decide) rfl (by decide) ?_
    refine x_aload_n hκ dX5_act_219 rfl ?_
    refine x_iconst (v := 1) hκ dX5_act_220 (by decide) ?_
    refine c_put hκ kX5 (by exact k44) 6 (by decide) (Or.inl q577) rfl rfl (zn_n (by first | exact Or.inl rfl | exact Or.inr rfl | assumption)) (zn_f (by first | exact Or.inl rfl | exact Or.inr rfl | assumption)) dX5_act_221 ?_
    refine x_goto (tgt := 247) hκ dX5_act_224 (by decide) ?_
    refine c_retv hκ hr dX5_act_247 ?_
    refine ⟨(h0.a44 (k := 6) (by decide) _).fr (und_fr ((Fr.rf [51] τ).S rfl _)) (by decide), (hq.a44 h0.sc _).sg rfl rfl rfl rfl, ?_⟩
    unfold ArA
    simp only [oS_o, true_and, Nat.reduceEqDiff, ↓reduceIte]
    exact ⟨a1, a2, a3, a4, a5, rfl, a7, a8, a9⟩
  · rw [if_neg (by decide)]
    refine CMg.of (by decide) (Nat.le_of_ble_eq_true rfl) ?_
    rintro κ rfl hL hκ hr
    refine x_iload_n hκ dX5_act_0 rfl ?_
    refine x_tableIn (off := 226) (tgt := 227) hκ dX5_act_1 (by decide) (by decide) rfl (by decide) ?_
    refine x_aload_n hκ dX5_act_227 rfl ?_
    refine c_callV  hκ (mX5_answer (d := 2) h hC hn hl hb hA hrow (by decide)) (by omega) (by decide) wX5_96 aX5_answer kX5 (by exact k44) rfl (Nat.le_of_ble_eq_true rfl) dX5_act_228 (jV (fun s228 h228 => ?_))
    refine x_goto (tgt := 247) hκ dX5_act_231 (by decide) ?_
    refine c_retv hκ hr dX5_act_247 ?_
    exact h228
  · have e : actsS τ 9 l b tr = tS τ 52 1 := by unfold actsS; rw [if_neg (by decide), if_neg (by decide), if_neg (by decide), if_neg (by decide), if_pos rfl]
    rw [e, if_neg (by decide)]
    refine CMg.of (by decide) (Nat.le_of_ble_eq_true rfl) ?_
    rintro κ rfl hL hκ hr
    refine x_iload_n hκ dX5_act_0 rfl ?_
    refine x_tableIn (off := 233) (tgt := 234) hκ dX5_act_1 (by decide) (by decide) rfl (by decide) ?_
    refine x_aload_n hκ dX5_act_234 rfl ?_
    refine x_iconst (v := 1) hκ dX5_act_235 (by decide) ?_
    refine c_put hκ kX5 (by exact k44) 7 (by decide) (Or.inl q579) rfl rfl (zn_n (by first | exact Or.inl rfl | exact Or.inr rfl | assumption)) (zn_f (by first | exact Or.inl rfl | exact Or.inr rfl | assumption)) dX5_act_236 ?_
    refine x_goto (tgt := 247) hκ dX5_act_239 (by decide) ?_
    refine c_retv hκ hr dX5_act_247 ?_
    refine ⟨(h0.a44 (k := 7) (by decide) _).fr (und_fr ((Fr.rf [52] τ).S rfl _)) (by decide), (hq.a44 h0.sc _).sg rfl rfl rfl rfl, ?_⟩
    unfold ArA
    simp only [oS_o, true_and, Nat.reduceEqDiff, ↓reduceIte]
    exact ⟨a1, a2, a3, a4, a5, a6, rfl, a8, a9⟩
  · have e : actsS τ 10 l b tr = τ := by unfold actsS; rw [if_neg (by decide), if_neg (by decide), if_neg (by decide), if_neg (by decide), if_neg (by decide)]
    rw [e, if_pos rfl]
    refine CMg.of (by decide) (Nat.le_of_ble_eq_true rfl) ?_
    rintro κ rfl hL hκ hr
    refine x_iload_n hκ dX5_act_0 rfl ?_
    refine x_tableIn (off := 241) (tgt := 242) hκ dX5_act_1 (by decide) (by decide) rfl (by decide) ?_
    refine x_aload_n hκ dX5_act_242 rfl ?_
    refine x_iconst (v := 1) hκ dX5_act_243 (by decide) ?_
    refine c_put hκ kX5 (by exact k44) 9 (by decide) (Or.inl q583) rfl rfl (zn_n (by first | exact Or.inl rfl | exact Or.inr rfl | assumption)) (zn_f (by first | exact Or.inl rfl | exact Or.inr rfl | assumption)) dX5_act_244 ?_
    refine c_retv hκ hr dX5_act_247 ?_
    refine ⟨h0.a44 (k := 9) (by decide) _, hq.a44 h0.sc _, ?_⟩
    unfold ArA
    simp only [oS_o, true_and, Nat.reduceEqDiff, ↓reduceIte]
    exact ⟨a1, a2, a3, a4, a5, a6, a7, a8, trivial⟩
