
/-! the component: answering, acting -/
/-- the letter's numbers as the component reads them -/
theorem RnI.row {E : gE} {L : Nat → Nat} {γ : Gh} {σ : TS} {c : Int32} {τ : TS} {l b : Nat} {tr z : Int32} {s : CSt} (h : RnI E L γ σ c τ l b tr z s) (hl : l < vN γ) : s.1 (vL γ l) = 15 ∧ s.2.1 (vL γ l) 1 = .int (σ.2 26 l) ∧ s.2.1 (vL γ l) 2 = .int (σ.2 27 l) ∧ s.2.1 (vL γ l) 5 = .int (σ.2 30 l) ∧ s.2.1 (vL γ l) 6 = .int (σ.2 31 l) ∧ s.2.1 (vL γ l) 8 = .int (σ.2 33 l) := by
  obtain ⟨l1, l2, l3, l4⟩ := h.1.lt hl
  exact ⟨l1, l4 1 (by decide) (by decide), l4 2 (by decide) (by decide), l4 5 (by decide) (by decide), l4 6 (by decide) (by decide), l4 8 (by decide) (by decide)⟩
theorem und_ans {σ τ : TS} {n l b : Nat} : Fr [53] (tA (und σ τ) 35 (16 * b + Int32.toNatClampNeg (τ.2 26 l)) (τ.2 33 l)) (und σ (answersS τ n l b)) := fun k hk => by
  have h53 : ¬ k = 53 := fun z => by rw [z] at hk; cases hk
  refine ⟨?_, ?_⟩
  · show (if k = 25 ∨ k = 38 then σ.1 k else (answersS τ n l b).1 k) = if k = 25 ∨ k = 38 then σ.1 k else τ.1 k
    by_cases e : k = 25 ∨ k = 38
    · rw [if_pos e, if_pos e]
    · rw [if_neg e, if_neg e]
      have e25 : ¬ k = 25 := fun z => e (Or.inl z)
      have e38 : ¬ k = 38 := fun z => e (Or.inr z)
      unfold answersS addS
      simp only [tS_1, tA_1, e25, e38, h53, ↓reduceIte]
  · show (if 26 ≤ k ∧ k ≤ 33 then σ.2 k else (answersS τ n l b).2 k) = (tA (und σ τ) 35 (16 * b + Int32.toNatClampNeg (τ.2 26 l)) (τ.2 33 l)).2 k
    rw [tA_2]
    by_cases e : 26 ≤ k ∧ k ≤ 33
    · rw [if_pos e, if_neg (by omega)]
      show _ = if 26 ≤ k ∧ k ≤ 33 then σ.2 k else τ.2 k
      rw [if_pos e]
    · rw [if_neg e]
      unfold answersS addS
      simp only [tS_2, tA_2]
      rw [if_neg (by omega), if_neg (by omega), if_neg (by omega), if_neg (by omega), if_neg (by omega), if_neg (by omega), if_neg (by omega), if_neg (by omega)]
      by_cases e35 : k = 35
      · rw [if_pos e35, if_pos e35]
        rfl
      · rw [if_neg e35, if_neg e35]
        show _ = if 26 ≤ k ∧ k ≤ 33 then σ.2 k else τ.2 k
        rw [if_neg e]
theorem ans_free {v dt dy : Int32} (h1 : v = -1000 ∨ 0 ≤ v.toInt) (h2 : 0 ≤ dt.toInt ∧ dt.toInt ≤ 9999) (h3 : dy.toInt ≤ 99) : ((ans v).toInt < 0 ∨ ¬ (dt - ans v).toInt < dy.toInt) ↔ ¬ (dt - v).toInt < dy.toInt := by
  have hv := i32_rg v
  by_cases e : v = -1000
  · subst e
    have e1 : ans (-1000) = -1 := rfl
    rw [e1]
    have e2 : (dt - (-1000)).toInt = dt.toInt + 1000 := by rw [i32_sub (by simp only [Int32.reduceToInt]; omega) (by simp only [Int32.reduceToInt]; omega)]; simp only [Int32.reduceToInt]; omega
    rw [e2]
    exact ⟨fun _ => by omega, fun _ => Or.inl (by decide)⟩
  · have e1 : ans v = v := if_neg e
    rw [e1]
    rcases h1 with z | z
    · exact absurd z e
    · exact ⟨fun q => q.resolve_left (by omega), Or.inr⟩
theorem mX5_answer {E : gE} {L : Nat → Nat} {γ : Gh} {σ : TS} {c : Int32} {τ : TS} {l b : Nat} {tr z : Int32} {s : CSt} (h : RnI E L γ σ c τ l b tr z s) {n8 n : Nat} (hC : CI σ n8 n l b tr τ) (hn : n = vN γ) (hl : l < n) (hb : b < 3) (hA : Aw σ n) (hrow : rowOk σ l) {d : Nat} (hd : 1 < d) : CMg E s yX5_answer cX5_answer 3 none d 0 0 [.ref (L 44)] (qV (RnI E L γ σ c (actsS τ 8 l b tr) l b tr z)) := by
  subst hn
  obtain ⟨h0, hq, ha⟩ := id h
  obtain ⟨l1, w26, w27, w30, w31, w33⟩ := h.row hl
  obtain ⟨a1, a2, a3, a4, a5, a6, a7, a8, a9⟩ := ha
  obtain ⟨r26, r27, r28, r29, r30, r31, r32, r33⟩ := hC.row hl
  obtain ⟨b1, b2, b3, b4⟩ := h0.b b hb
  have b1 : s.2.1 (L (5 + b)) 4 = .int (τ.2 8 b) := b1
  have b4 : ∀ k, k < 16 → s.2.2.1 (L (38 + b)) k = ans (τ.2 35 (16 * b + k)) := b4
  obtain ⟨F, hF, eF, eF2⟩ := i32_nat hrow.1
  have h8 : τ.2 8 = σ.2 8 := (hC.1 8 rfl).2
  have hN := h0.l.2.1
  have e25 : τ.1 53 = -1 → τ.1 25 = nI (vN γ) := fun z => by
    rcases hC.2.2.1 with q | q
    · exact q.1
    · have := q.2.1; rw [z] at this; exact absurd this (by have e := nI_toInt (n := vN γ) (by omega); intro z2; rw [← z2] at e; simp only [Int32.reduceToInt] at e; omega)
  have v35 : τ.2 35 (16 * b + F) = -1000 ∨ 0 ≤ (τ.2 35 (16 * b + F)).toInt := by
    rcases hC.2.2.1 with q | q
    · rw [q.2.2.1]; exact hA.1 _ (by omega)
    · rw [q.2.2.2.1]
      unfold upd
      split
      · exact Or.inr (hA.2.2 l hl).1
      · exact hA.1 _ (by omega)
  have hfree := ans_free v35 (hA.2.2 l hl) (show (τ.2 8 b).toInt ≤ 99 by rw [h8]; exact (hA.2.1 b hb).2)
  have hmay : mayP τ l b ↔ (σ.2 30 l = 0 ∧ ((σ.2 27 l >>> (nI b &&& 31)) &&& 1 = 1) ∧ ¬ σ.2 26 l = nI b ∧ ¬ (σ.2 33 l - τ.2 35 (16 * b + F)).toInt < (τ.2 8 b).toInt) := by
    unfold mayP
    rw [r30, r27, r26, r33, eF2]
  have e8 : actsS τ 8 l b tr = if mayP τ l b then answersS τ (Int32.toNatClampNeg (τ.1 25)) l b else τ := by
    unfold actsS
    rw [if_neg (by decide), if_neg (by decide), if_neg (by decide), if_pos rfl]
  have no : ¬ mayP τ l b → RnI E L γ σ c (actsS τ 8 l b tr) l b tr z s := fun hm => by rw [e8, if_neg hm]; exact h
  have yes : mayP τ l b → RnI E L γ σ c (actsS τ 8 l b tr) l b tr z (oS (aS s (L (38 + b)) F (σ.2 33 l)) (L 44) 8 (.int 1)) := fun hm => by
    have h53 : τ.1 53 = -1 := by
      rcases hC.2.2.1 with q | q
      · exact q.2.1
      · exfalso
        apply hm.2.2.2
        rw [q.2.2.2.1, r26, eF2, r33, show upd (σ.2 35) (16 * b + F) (σ.2 33 l) (16 * b + F) = σ.2 33 l from if_pos rfl, show σ.2 33 l - σ.2 33 l = 0 from by rw [Int32.sub_self]]
        have := (hA.2.1 b hb).1
        rw [h8]
        simp only [Int32.reduceToInt]
        omega
    rw [e8, if_pos hm]
    have hx : ¬ σ.2 33 l = -1000 := fun q => by have := (hA.2.2 l hl).1; rw [q] at this; exact absurd this (by decide)
    have c1 := (h0.answ hb (k := F) (by omega) hx).a44 (k := 8) (by decide) (.int 1)
    have hu := und_ans (σ := σ) (τ := τ) (n := Int32.toNatClampNeg (τ.1 25)) (l := l) (b := b)
    rw [r26, eF2, r33] at hu
    refine ⟨c1.fr hu (by decide), (Qu.a44 (h0.sc.aS) (hq.aS (h0.sc.ne (by decide) (by omega) (by omega)) (h0.sc.ne (by decide) (by omega) (by omega))) _).sg rfl rfl rfl rfl, ?_⟩
    have e53 : (answersS τ (Int32.toNatClampNeg (τ.1 25)) l b).1 53 = nI (vN γ) := by
      show nI (Int32.toNatClampNeg (τ.1 25)) = _
      rw [e25 h53, nI_clamp (by omega)]
    have n53 : ¬ nI (vN γ) = -1 := fun q => by have e := nI_toInt (n := vN γ) (by omega); rw [q] at e; simp only [Int32.reduceToInt] at e; omega
    unfold ArA
    rw [e53, if_neg n53]
    simp only [oS_o, true_and, Nat.reduceEqDiff, ↓reduceIte]
    exact ⟨a1, a2, a3, a4, a5, a6, a7, a9⟩
  refine CMg.of (by decide) (Nat.le_of_ble_eq_true rfl) ?_
  rintro κ rfl hL hκ hr
  have go : ∀ zf : Int32, Tz (¬ (σ.2 33 l - τ.2 35 (16 * b + F)).toInt < (τ.2 8 b).toInt) zf → X κ (sG (kE κ) s) 0 0 44 [some (.ref (L 44)), some (.int (ans (τ.2 35 (16 * b + F)))), none] [.int zf] := by
    intro zf hz
    refine x_istore_n hκ dX5_answer_44 (by rw [hL]; decide) rfl ?_
    refine x_aload_n hκ dX5_answer_45 rfl ?_
    refine c_get hκ kX5 (by (try simp (disch := omega) only [oS_k, oS_o, oS_a, oS_f, oS_n, aS_k, aS_o, aS_a, aS_f, aS_n, fS_k, fS_o, fS_a, fS_f, fS_n, nO_k, nO_o, nO_a, nA_k, nA_o, nA_a, nA_f, nA_n, nF_k, nF_o, nF_a, nF_f, nF_n, Nat.reduceEqDiff, ↓reduceIte, and_true, true_and, and_false, false_and, reduceCtorEq, xl_0, xl_1, xl_2, nI_add, nI_1, nm_2, nm_3, nm_4, nm_6, nm_7, nm_8, nm_12, nm_16, na_0, na_2, na_3, na_4, na_5, na_6, na_7, na_8, nm_p, nm_m, nI_clamp]); first | done | assumption | exact h0.sc.k (by decide) | exact h0.sc.kb (by omega) | exact h0.sc.kbt (by omega) | exact h0.sc.kbh (by omega) | exact h0.sc.kba (by omega) | exact h0.sc.kt (by omega) | exact h0.sc.ktl (by omega) | exact h0.sc.ks (by omega) | rfl) 1 (by decide) (Or.inl q568) rfl (by exact a1) dX5_answer_46 ?_
    refine c_get hκ kX16 (by exact l1) 5 (by decide) (Or.inr ⟨_, q757⟩) rfl (by exact w30) dX5_answer_49 ?_
    refine x_if_ne (tgt := 120) hκ dX5_answer_52 (by decide) (fun c52 => ?_) (fun c52 => ?_)
    · -- X5_answer 52T
      have i52 := c52
      simp (disch := omega) only [i32_lt, i32_le, i32_eq, Int32.reduceToInt, nI_toInt] at i52
      refine c_retv hκ hr dX5_answer_120 ?_
      exact no (fun q => c52 (hmay.mp q).1)
    · -- X5_answer 52F
      have i52 := c52
      simp (disch := omega) only [i32_lt, i32_le, i32_eq, Int32.reduceToInt, nI_toInt] at i52
      refine x_aload_n hκ dX5_answer_55 rfl ?_
      refine c_get hκ kX5 (by (try simp (disch := omega) only [oS_k, oS_o, oS_a, oS_f, oS_n, aS_k, aS_o, aS_a, aS_f, aS_n, fS_k, fS_o, fS_a, fS_f, fS_n, nO_k, nO_o, nO_a, nA_k, nA_o, nA_a, nA_f, nA_n, nF_k, nF_o, nF_a, nF_f, nF_n, Nat.reduceEqDiff, ↓reduceIte, and_true, true_and, and_false, false_and, reduceCtorEq, xl_0, xl_1, xl_2, nI_add, nI_1, nm_2, nm_3, nm_4, nm_6, nm_7, nm_8, nm_12, nm_16, na_0, na_2, na_3, na_4, na_5, na_6, na_7, na_8, nm_p, nm_m, nI_clamp]); first | done | assumption | exact h0.sc.k (by decide) | exact h0.sc.kb (by omega) | exact h0.sc.kbt (by omega) | exact h0.sc.kbh (by omega) | exact h0.sc.kba (by omega) | exact h0.sc.kt (by omega) | exact h0.sc.ktl (by omega) | exact h0.sc.ks (by omega) | rfl) 1 (by decide) (Or.inl q568) rfl (by exact a1) dX5_answer_56 ?_
      refine x_aload_n hκ dX5_answer_59 rfl ?_
      refine c_get hκ kX5 (by (try simp (disch := omega) only [oS_k, oS_o, oS_a, oS_f, oS_n, aS_k, aS_o, aS_a, aS_f, aS_n, fS_k, fS_o, fS_a, fS_f, fS_n, nO_k, nO_o, nO_a, nA_k, nA_o, nA_a, nA_f, nA_n, nF_k, nF_o, nF_a, nF_f, nF_n, Nat.reduceEqDiff, ↓reduceIte, and_true, true_and, and_false, false_and, reduceCtorEq, xl_0, xl_1, xl_2, nI_add, nI_1, nm_2, nm_3, nm_4, nm_6, nm_7, nm_8, nm_12, nm_16, na_0, na_2, na_3, na_4, na_5, na_6, na_7, na_8, nm_p, nm_m, nI_clamp]); first | done | assumption | exact h0.sc.k (by decide) | exact h0.sc.kb (by omega) | exact h0.sc.kbt (by omega) | exact h0.sc.kbh (by omega) | exact h0.sc.kba (by omega) | exact h0.sc.kt (by omega) | exact h0.sc.ktl (by omega) | exact h0.sc.ks (by omega) | rfl) 2 (by decide) (Or.inl q570) rfl (by exact a2) dX5_answer_60 ?_
      refine c_get hκ kX2 (by (try simp (disch := omega) only [oS_k, oS_o, oS_a, oS_f, oS_n, aS_k, aS_o, aS_a, aS_f, aS_n, fS_k, fS_o, fS_a, fS_f, fS_n, nO_k, nO_o, nO_a, nA_k, nA_o, nA_a, nA_f, nA_n, nF_k, nF_o, nF_a, nF_f, nF_n, Nat.reduceEqDiff, ↓reduceIte, and_true, true_and, and_false, false_and, reduceCtorEq, xl_0, xl_1, xl_2, nI_add, nI_1, nm_2, nm_3, nm_4, nm_6, nm_7, nm_8, nm_12, nm_16, na_0, na_2, na_3, na_4, na_5, na_6, na_7, na_8, nm_p, nm_m, nI_clamp]); first | done | assumption | exact h0.sc.k (by decide) | exact h0.sc.kb (by omega) | exact h0.sc.kbt (by omega) | exact h0.sc.kbh (by omega) | exact h0.sc.kba (by omega) | exact h0.sc.kt (by omega) | exact h0.sc.ktl (by omega) | exact h0.sc.ks (by omega) | rfl) 0 (by decide) (Or.inr ⟨_, q531⟩) rfl (by exact (h0.sc.2.2.2.2.1 b hb)) dX5_answer_63 ?_
      refine c_callV  hκ (mX16_isFor l1 w27) (by omega) (by decide) wX5_59 aX16_isFor kX16 (by exact l1) rfl (Nat.le_of_ble_eq_true rfl) dX5_answer_66 (jIr (fun r66 h66 => ?_))
      refine x_if_eq (tgt := 120) hκ dX5_answer_69 (by decide) (fun c69 => ?_) (fun c69 => ?_)
      · -- X5_answer 69T
        have i69 := h66.f c69
        try simp only [Int32.reduceToInt] at i69
        refine c_retv hκ hr dX5_answer_120 ?_
        exact no (fun q => i69 (hmay.mp q).2.1)
      · -- X5_answer 69F
        have i69 := h66.t c69
        try simp only [Int32.reduceToInt] at i69
        refine x_aload_n hκ dX5_answer_72 rfl ?_
        refine c_get hκ kX5 (by (try simp (disch := omega) only [oS_k, oS_o, oS_a, oS_f, oS_n, aS_k, aS_o, aS_a, aS_f, aS_n, fS_k, fS_o, fS_a, fS_f, fS_n, nO_k, nO_o, nO_a, nA_k, nA_o, nA_a, nA_f, nA_n, nF_k, nF_o, nF_a, nF_f, nF_n, Nat.reduceEqDiff, ↓reduceIte, and_true, true_and, and_false, false_and, reduceCtorEq, xl_0, xl_1, xl_2, nI_add, nI_1, nm_2, nm_3, nm_4, nm_6, nm_7, nm_8, nm_12, nm_16, na_0, na_2, na_3, na_4, na_5, na_6, na_7, na_8, nm_p, nm_m, nI_clamp]); first | done | assumption | exact h0.sc.k (by decide) | exact h0.sc.kb (by omega) | exact h0.sc.kbt (by omega) | exact h0.sc.kbh (by omega) | exact h0.sc.kba (by omega) | exact h0.sc.kt (by omega) | exact h0.sc.ktl (by omega) | exact h0.sc.ks (by omega) | rfl) 1 (by decide) (Or.inl q568) rfl (by exact a1) dX5_answer_73 ?_
        refine c_get hκ kX16 (by exact l1) 1 (by decide) (Or.inr ⟨_, q747⟩) rfl (by exact w26) dX5_answer_76 ?_
        refine x_aload_n hκ dX5_answer_79 rfl ?_
        refine c_get hκ kX5 (by (try simp (disch := omega) only [oS_k, oS_o, oS_a, oS_f, oS_n, aS_k, aS_o, aS_a, aS_f, aS_n, fS_k, fS_o, fS_a, fS_f, fS_n, nO_k, nO_o, nO_a, nA_k, nA_o, nA_a, nA_f, nA_n, nF_k, nF_o, nF_a, nF_f, nF_n, Nat.reduceEqDiff, ↓reduceIte, and_true, true_and, and_false, false_and, reduceCtorEq, xl_0, xl_1, xl_2, nI_add, nI_1, nm_2, nm_3, nm_4, nm_6, nm_7, nm_8, nm_12, nm_16, na_0, na_2, na_3, na_4, na_5, na_6, na_7, na_8, nm_p, nm_m, nI_clamp]); first | done | assumption | exact h0.sc.k (by decide) | exact h0.sc.kb (by omega) | exact h0.sc.kbt (by omega) | exact h0.sc.kbh (by omega) | exact h0.sc.kba (by omega) | exact h0.sc.kt (by omega) | exact h0.sc.ktl (by omega) | exact h0.sc.ks (by omega) | rfl) 2 (by decide) (Or.inl q570) rfl (by exact a2) dX5_answer_80 ?_
        refine c_get hκ kX2 (by (try simp (disch := omega) only [oS_k, oS_o, oS_a, oS_f, oS_n, aS_k, aS_o, aS_a, aS_f, aS_n, fS_k, fS_o, fS_a, fS_f, fS_n, nO_k, nO_o, nO_a, nA_k, nA_o, nA_a, nA_f, nA_n, nF_k, nF_o, nF_a, nF_f, nF_n, Nat.reduceEqDiff, ↓reduceIte, and_true, true_and, and_false, false_and, reduceCtorEq, xl_0, xl_1, xl_2, nI_add, nI_1, nm_2, nm_3, nm_4, nm_6, nm_7, nm_8, nm_12, nm_16, na_0, na_2, na_3, na_4, na_5, na_6, na_7, na_8, nm_p, nm_m, nI_clamp]); first | done | assumption | exact h0.sc.k (by decide) | exact h0.sc.kb (by omega) | exact h0.sc.kbt (by omega) | exact h0.sc.kbh (by omega) | exact h0.sc.kba (by omega) | exact h0.sc.kt (by omega) | exact h0.sc.ktl (by omega) | exact h0.sc.ks (by omega) | rfl) 0 (by decide) (Or.inr ⟨_, q531⟩) rfl (by exact (h0.sc.2.2.2.2.1 b hb)) dX5_answer_83 ?_
        refine x_icmp_eq (tgt := 120) hκ dX5_answer_86 (by decide) (fun c86 => ?_) (fun c86 => ?_)
        · -- X5_answer 86T
          have i86 := c86
          simp (disch := omega) only [i32_lt, i32_le, i32_eq, Int32.reduceToInt, nI_toInt] at i86
          refine c_retv hκ hr dX5_answer_120 ?_
          exact no (fun q => (hmay.mp q).2.2.1 c86)
        · -- X5_answer 86F
          have i86 := c86
          simp (disch := omega) only [i32_lt, i32_le, i32_eq, Int32.reduceToInt, nI_toInt] at i86
          refine x_iload_n hκ dX5_answer_89 rfl ?_
          refine x_if_eq (tgt := 120) hκ dX5_answer_90 (by decide) (fun c90 => ?_) (fun c90 => ?_)
          · -- X5_answer 90T
            have i90 := c90
            simp (disch := omega) only [i32_lt, i32_le, i32_eq, Int32.reduceToInt, nI_toInt] at i90
            refine c_retv hκ hr dX5_answer_120 ?_
            exact no (fun q => hz.f c90 (hmay.mp q).2.2.2)
          · -- X5_answer 90F
            have i90 := c90
            simp (disch := omega) only [i32_lt, i32_le, i32_eq, Int32.reduceToInt, nI_toInt] at i90
            refine x_aload_n hκ dX5_answer_93 rfl ?_
            refine c_get hκ kX5 (by (try simp (disch := omega) only [oS_k, oS_o, oS_a, oS_f, oS_n, aS_k, aS_o, aS_a, aS_f, aS_n, fS_k, fS_o, fS_a, fS_f, fS_n, nO_k, nO_o, nO_a, nA_k, nA_o, nA_a, nA_f, nA_n, nF_k, nF_o, nF_a, nF_f, nF_n, Nat.reduceEqDiff, ↓reduceIte, and_true, true_and, and_false, false_and, reduceCtorEq, xl_0, xl_1, xl_2, nI_add, nI_1, nm_2, nm_3, nm_4, nm_6, nm_7, nm_8, nm_12, nm_16, na_0, na_2, na_3, na_4, na_5, na_6, na_7, na_8, nm_p, nm_m, nI_clamp]); first | done | assumption | exact h0.sc.k (by decide) | exact h0.sc.kb (by omega) | exact h0.sc.kbt (by omega) | exact h0.sc.kbh (by omega) | exact h0.sc.kba (by omega) | exact h0.sc.kt (by omega) | exact h0.sc.ktl (by omega) | exact h0.sc.ks (by omega) | rfl) 2 (by decide) (Or.inl q570) rfl (by exact a2) dX5_answer_94 ?_
            refine c_get hκ kX2 (by (try simp (disch := omega) only [oS_k, oS_o, oS_a, oS_f, oS_n, aS_k, aS_o, aS_a, aS_f, aS_n, fS_k, fS_o, fS_a, fS_f, fS_n, nO_k, nO_o, nO_a, nA_k, nA_o, nA_a, nA_f, nA_n, nF_k, nF_o, nF_a, nF_f, nF_n, Nat.reduceEqDiff, ↓reduceIte, and_true, true_and, and_false, false_and, reduceCtorEq, xl_0, xl_1, xl_2, nI_add, nI_1, nm_2, nm_3, nm_4, nm_6, nm_7, nm_8, nm_12, nm_16, na_0, na_2, na_3, na_4, na_5, na_6, na_7, na_8, nm_p, nm_m, nI_clamp]); first | done | assumption | exact h0.sc.k (by decide) | exact h0.sc.kb (by omega) | exact h0.sc.kbt (by omega) | exact h0.sc.kbh (by omega) | exact h0.sc.kba (by omega) | exact h0.sc.kt (by omega) | exact h0.sc.ktl (by omega) | exact h0.sc.ks (by omega) | rfl) 3 (by decide) (Or.inr ⟨_, q539⟩) rfl (by (try simp (disch := omega) only [oS_k, oS_o, oS_a, oS_f, oS_n, aS_k, aS_o, aS_a, aS_f, aS_n, fS_k, fS_o, fS_a, fS_f, fS_n, nO_k, nO_o, nO_a, nA_k, nA_o, nA_a, nA_f, nA_n, nF_k, nF_o, nF_a, nF_f, nF_n, Nat.reduceEqDiff, ↓reduceIte, and_true, true_and, and_false, false_and, reduceCtorEq, xl_0, xl_1, xl_2, nI_add, nI_1, nm_2, nm_3, nm_4, nm_6, nm_7, nm_8, nm_12, nm_16, na_0, na_2, na_3, na_4, na_5, na_6, na_7, na_8, nm_p, nm_m, nI_clamp]); first | exact h0.sc.o (by decide) rfl | exact h0.sc.ob1 (by omega) | exact h0.sc.ob2 (by omega) | exact h0.sc.ob3 (by omega) | exact h0.sc.ot (by omega) | exact h0.sc.fb (by omega) | exact h0.sc.ft (by omega) (by omega) | exact h0.sc.fs (by omega) | exact h0.p.1 | exact h0.p.2.2.2.2.1 | exact h0.p.2.2.2.2.2.1 | exact h0.p.2.2.2.2.2.2.1 | exact h0.p.2.2.2.2.2.2.2.1 | exact h0.p.2.2.2.2.2.2.2.2.1 | exact rfl) dX5_answer_97 ?_
            refine x_aload_n hκ dX5_answer_100 rfl ?_
            refine c_get hκ kX5 (by (try simp (disch := omega) only [oS_k, oS_o, oS_a, oS_f, oS_n, aS_k, aS_o, aS_a, aS_f, aS_n, fS_k, fS_o, fS_a, fS_f, fS_n, nO_k, nO_o, nO_a, nA_k, nA_o, nA_a, nA_f, nA_n, nF_k, nF_o, nF_a, nF_f, nF_n, Nat.reduceEqDiff, ↓reduceIte, and_true, true_and, and_false, false_and, reduceCtorEq, xl_0, xl_1, xl_2, nI_add, nI_1, nm_2, nm_3, nm_4, nm_6, nm_7, nm_8, nm_12, nm_16, na_0, na_2, na_3, na_4, na_5, na_6, na_7, na_8, nm_p, nm_m, nI_clamp]); first | done | assumption | exact h0.sc.k (by decide) | exact h0.sc.kb (by omega) | exact h0.sc.kbt (by omega) | exact h0.sc.kbh (by omega) | exact h0.sc.kba (by omega) | exact h0.sc.kt (by omega) | exact h0.sc.ktl (by omega) | exact h0.sc.ks (by omega) | rfl) 1 (by decide) (Or.inl q568) rfl (by exact a1) dX5_answer_101 ?_
            refine c_get hκ kX16 (by exact l1) 1 (by decide) (Or.inr ⟨_, q747⟩) rfl (by exact w26) dX5_answer_104 ?_
            refine x_aload_n hκ dX5_answer_107 rfl ?_
            refine c_get hκ kX5 (by (try simp (disch := omega) only [oS_k, oS_o, oS_a, oS_f, oS_n, aS_k, aS_o, aS_a, aS_f, aS_n, fS_k, fS_o, fS_a, fS_f, fS_n, nO_k, nO_o, nO_a, nA_k, nA_o, nA_a, nA_f, nA_n, nF_k, nF_o, nF_a, nF_f, nF_n, Nat.reduceEqDiff, ↓reduceIte, and_true, true_and, and_false, false_and, reduceCtorEq, xl_0, xl_1, xl_2, nI_add, nI_1, nm_2, nm_3, nm_4, nm_6, nm_7, nm_8, nm_12, nm_16, na_0, na_2, na_3, na_4, na_5, na_6, na_7, na_8, nm_p, nm_m, nI_clamp]); first | done | assumption | exact h0.sc.k (by decide) | exact h0.sc.kb (by omega) | exact h0.sc.kbt (by omega) | exact h0.sc.kbh (by omega) | exact h0.sc.kba (by omega) | exact h0.sc.kt (by omega) | exact h0.sc.ktl (by omega) | exact h0.sc.ks (by omega) | rfl) 1 (by decide) (Or.inl q568) rfl (by exact a1) dX5_answer_108 ?_
            refine c_get hκ kX16 (by exact l1) 8 (by decide) (Or.inr ⟨_, q766⟩) rfl (by exact w33) dX5_answer_111 ?_
            rw [eF]
            refine c_iast hκ (by (try simp (disch := omega) only [oS_k, oS_o, oS_a, oS_f, oS_n, aS_k, aS_o, aS_a, aS_f, aS_n, fS_k, fS_o, fS_a, fS_f, fS_n, nO_k, nO_o, nO_a, nA_k, nA_o, nA_a, nA_f, nA_n, nF_k, nF_o, nF_a, nF_f, nF_n, Nat.reduceEqDiff, ↓reduceIte, and_true, true_and, and_false, false_and, reduceCtorEq, xl_0, xl_1, xl_2, nI_add, nI_1, nm_2, nm_3, nm_4, nm_6, nm_7, nm_8, nm_12, nm_16, na_0, na_2, na_3, na_4, na_5, na_6, na_7, na_8, nm_p, nm_m, nI_clamp]); first | done | assumption | exact h0.sc.k (by decide) | exact h0.sc.kb (by omega) | exact h0.sc.kbt (by omega) | exact h0.sc.kbh (by omega) | exact h0.sc.kba (by omega) | exact h0.sc.kt (by omega) | exact h0.sc.ktl (by omega) | exact h0.sc.ks (by omega) | rfl) (by (try simp (disch := omega) only [oS_k, oS_o, oS_a, oS_f, oS_n, aS_k, aS_o, aS_a, aS_f, aS_n, fS_k, fS_o, fS_a, fS_f, fS_n, nO_k, nO_o, nO_a, nA_k, nA_o, nA_a, nA_f, nA_n, nF_k, nF_o, nF_a, nF_f, nF_n, Nat.reduceEqDiff, ↓reduceIte, and_true, true_and, and_false, false_and, reduceCtorEq, xl_0, xl_1, xl_2, nI_add, nI_1, nm_2, nm_3, nm_4, nm_6, nm_7, nm_8, nm_12, nm_16, na_0, na_2, na_3, na_4, na_5, na_6, na_7, na_8, nm_p, nm_m, nI_clamp]); first | exact h0.sc.n3 | exact h0.sc.n4 | exact h0.sc.nbt (by omega) | exact h0.sc.nbh (by omega) | exact h0.sc.nba (by omega) | exact h0.sc.n41 | exact h0.sc.n42 | exact h0.sc.n43 | exact h0.sc.n45 | exact h0.sc.n46 | exact h0.sc.n48 | exact rfl) (by first | ((with_reducible refine vp_in_nI ?_ ?_) <;> omega) | exact i32_in (by omega) (by omega) | exact i32_in' (by simp only [Int32.toInt_add, Int32.toInt_mul, Int32.toInt_sub, Int32.reduceToInt, Int.bmod_add_bmod, Int.bmod_sub_bmod, Int.add_bmod_bmod, Int.sub_bmod_bmod, Int.bmod_mul_bmod, Int.mul_bmod_bmod]; exact i32_bm (by omega) (by omega)) (by omega) (by omega) | exact i32_in (by decide) (by decide)) (by (try simp (disch := omega) only [oS_k, oS_o, oS_a, oS_f, oS_n, aS_k, aS_o, aS_a, aS_f, aS_n, fS_k, fS_o, fS_a, fS_f, fS_n, nO_k, nO_o, nO_a, nA_k, nA_o, nA_a, nA_f, nA_n, nF_k, nF_o, nF_a, nF_f, nF_n, Nat.reduceEqDiff, ↓reduceIte, and_true, true_and, and_false, false_and, reduceCtorEq, xl_0, xl_1, xl_2, nI_add, nI_1, nm_2, nm_3, nm_4, nm_6, nm_7, nm_8, nm_12, nm_16, na_0, na_2, na_3, na_4, na_5, na_6, na_7, na_8, nm_p, nm_m, nI_clamp]); first | exact h0.sc.o (by decide) rfl | exact h0.sc.ob1 (by omega) | exact h0.sc.ob2 (by omega) | exact h0.sc.ob3 (by omega) | exact h0.sc.ot (by omega) | exact h0.sc.fb (by omega) | exact h0.sc.ft (by omega) (by omega) | exact h0.sc.fs (by omega) | exact h0.p.1 | exact h0.p.2.2.2.2.1 | exact h0.p.2.2.2.2.2.1 | exact h0.p.2.2.2.2.2.2.1 | exact h0.p.2.2.2.2.2.2.2.1 | exact h0.p.2.2.2.2.2.2.2.2.1 | exact rfl) dX5_answer_114 ?_
            refine x_aload_n hκ dX5_answer_115 rfl ?_
            refine x_iconst (v := 1) hκ dX5_answer_116 (by decide) ?_
            refine c_put hκ kX5 (by (try simp (disch := omega) only [oS_k, oS_o, oS_a, oS_f, oS_n, aS_k, aS_o, aS_a, aS_f, aS_n, fS_k, fS_o, fS_a, fS_f, fS_n, nO_k, nO_o, nO_a, nA_k, nA_o, nA_a, nA_f, nA_n, nF_k, nF_o, nF_a, nF_f, nF_n, Nat.reduceEqDiff, ↓reduceIte, and_true, true_and, and_false, false_and, reduceCtorEq, xl_0, xl_1, xl_2, nI_add, nI_1, nm_2, nm_3, nm_4, nm_6, nm_7, nm_8, nm_12, nm_16, na_0, na_2, na_3, na_4, na_5, na_6, na_7, na_8, nm_p, nm_m, nI_clamp]); first | done | assumption | exact h0.sc.k (by decide) | exact h0.sc.kb (by omega) | exact h0.sc.kbt (by omega) | exact h0.sc.kbh (by omega) | exact h0.sc.kba (by omega) | exact h0.sc.kt (by omega) | exact h0.sc.ktl (by omega) | exact h0.sc.ks (by omega) | rfl) 8 (by decide) (Or.inl q581) rfl rfl (zn_n (by first | exact Or.inl rfl | exact Or.inr rfl | assumption)) (zn_f (by first | exact Or.inl rfl | exact Or.inr rfl | assumption)) dX5_answer_117 ?_
            refine c_retv hκ hr dX5_answer_120 ?_
            exact yes (hmay.mpr ⟨c52, i69, c86, hz.t c90⟩)
  refine x_aload_n hκ dX5_answer_0 rfl ?_
  refine c_get hκ kX5 (by (try simp (disch := omega) only [oS_k, oS_o, oS_a, oS_f, oS_n, aS_k, aS_o, aS_a, aS_f, aS_n, fS_k, fS_o, fS_a, fS_f, fS_n, nO_k, nO_o, nO_a, nA_k, nA_o, nA_a, nA_f, nA_n, nF_k, nF_o, nF_a, nF_f, nF_n, Nat.reduceEqDiff, ↓reduceIte, and_true, true_and, and_false, false_and, reduceCtorEq, xl_0, xl_1, xl_2, nI_add, nI_1, nm_2, nm_3, nm_4, nm_6, nm_7, nm_8, nm_12, nm_16, na_0, na_2, na_3, na_4, na_5, na_6, na_7, na_8, nm_p, nm_m, nI_clamp]); first | done | assumption | exact h0.sc.k (by decide) | exact h0.sc.kb (by omega) | exact h0.sc.kbt (by omega) | exact h0.sc.kbh (by omega) | exact h0.sc.kba (by omega) | exact h0.sc.kt (by omega) | exact h0.sc.ktl (by omega) | exact h0.sc.ks (by omega) | rfl) 2 (by decide) (Or.inl q570) rfl (by exact a2) dX5_answer_1 ?_
  refine c_get hκ kX2 (by (try simp (disch := omega) only [oS_k, oS_o, oS_a, oS_f, oS_n, aS_k, aS_o, aS_a, aS_f, aS_n, fS_k, fS_o, fS_a, fS_f, fS_n, nO_k, nO_o, nO_a, nA_k, nA_o, nA_a, nA_f, nA_n, nF_k, nF_o, nF_a, nF_f, nF_n, Nat.reduceEqDiff, ↓reduceIte, and_true, true_and, and_false, false_and, reduceCtorEq, xl_0, xl_1, xl_2, nI_add, nI_1, nm_2, nm_3, nm_4, nm_6, nm_7, nm_8, nm_12, nm_16, na_0, na_2, na_3, na_4, na_5, na_6, na_7, na_8, nm_p, nm_m, nI_clamp]); first | done | assumption | exact h0.sc.k (by decide) | exact h0.sc.kb (by omega) | exact h0.sc.kbt (by omega) | exact h0.sc.kbh (by omega) | exact h0.sc.kba (by omega) | exact h0.sc.kt (by omega) | exact h0.sc.ktl (by omega) | exact h0.sc.ks (by omega) | rfl) 3 (by decide) (Or.inr ⟨_, q539⟩) rfl (by (try simp (disch := omega) only [oS_k, oS_o, oS_a, oS_f, oS_n, aS_k, aS_o, aS_a, aS_f, aS_n, fS_k, fS_o, fS_a, fS_f, fS_n, nO_k, nO_o, nO_a, nA_k, nA_o, nA_a, nA_f, nA_n, nF_k, nF_o, nF_a, nF_f, nF_n, Nat.reduceEqDiff, ↓reduceIte, and_true, true_and, and_false, false_and, reduceCtorEq, xl_0, xl_1, xl_2, nI_add, nI_1, nm_2, nm_3, nm_4, nm_6, nm_7, nm_8, nm_12, nm_16, na_0, na_2, na_3, na_4, na_5, na_6, na_7, na_8, nm_p, nm_m, nI_clamp]); first | exact h0.sc.o (by decide) rfl | exact h0.sc.ob1 (by omega) | exact h0.sc.ob2 (by omega) | exact h0.sc.ob3 (by omega) | exact h0.sc.ot (by omega) | exact h0.sc.fb (by omega) | exact h0.sc.ft (by omega) (by omega) | exact h0.sc.fs (by omega) | exact h0.p.1 | exact h0.p.2.2.2.2.1 | exact h0.p.2.2.2.2.2.1 | exact h0.p.2.2.2.2.2.2.1 | exact h0.p.2.2.2.2.2.2.2.1 | exact h0.p.2.2.2.2.2.2.2.2.1 | exact rfl) dX5_answer_4 ?_
  refine x_aload_n hκ dX5_answer_7 rfl ?_
  refine c_get hκ kX5 (by (try simp (disch := omega) only [oS_k, oS_o, oS_a, oS_f, oS_n, aS_k, aS_o, aS_a, aS_f, aS_n, fS_k, fS_o, fS_a, fS_f, fS_n, nO_k, nO_o, nO_a, nA_k, nA_o, nA_a, nA_f, nA_n, nF_k, nF_o, nF_a, nF_f, nF_n, Nat.reduceEqDiff, ↓reduceIte, and_true, true_and, and_false, false_and, reduceCtorEq, xl_0, xl_1, xl_2, nI_add, nI_1, nm_2, nm_3, nm_4, nm_6, nm_7, nm_8, nm_12, nm_16, na_0, na_2, na_3, na_4, na_5, na_6, na_7, na_8, nm_p, nm_m, nI_clamp]); first | done | assumption | exact h0.sc.k (by decide) | exact h0.sc.kb (by omega) | exact h0.sc.kbt (by omega) | exact h0.sc.kbh (by omega) | exact h0.sc.kba (by omega) | exact h0.sc.kt (by omega) | exact h0.sc.ktl (by omega) | exact h0.sc.ks (by omega) | rfl) 1 (by decide) (Or.inl q568) rfl (by exact a1) dX5_answer_8 ?_
  refine c_get hκ kX16 (by exact l1) 1 (by decide) (Or.inr ⟨_, q747⟩) rfl (by exact w26) dX5_answer_11 ?_
  rw [eF]
  refine c_iald hκ (by (try simp (disch := omega) only [oS_k, oS_o, oS_a, oS_f, oS_n, aS_k, aS_o, aS_a, aS_f, aS_n, fS_k, fS_o, fS_a, fS_f, fS_n, nO_k, nO_o, nO_a, nA_k, nA_o, nA_a, nA_f, nA_n, nF_k, nF_o, nF_a, nF_f, nF_n, Nat.reduceEqDiff, ↓reduceIte, and_true, true_and, and_false, false_and, reduceCtorEq, xl_0, xl_1, xl_2, nI_add, nI_1, nm_2, nm_3, nm_4, nm_6, nm_7, nm_8, nm_12, nm_16, na_0, na_2, na_3, na_4, na_5, na_6, na_7, na_8, nm_p, nm_m, nI_clamp]); first | done | assumption | exact h0.sc.k (by decide) | exact h0.sc.kb (by omega) | exact h0.sc.kbt (by omega) | exact h0.sc.kbh (by omega) | exact h0.sc.kba (by omega) | exact h0.sc.kt (by omega) | exact h0.sc.ktl (by omega) | exact h0.sc.ks (by omega) | rfl) (by (try simp (disch := omega) only [oS_k, oS_o, oS_a, oS_f, oS_n, aS_k, aS_o, aS_a, aS_f, aS_n, fS_k, fS_o, fS_a, fS_f, fS_n, nO_k, nO_o, nO_a, nA_k, nA_o, nA_a, nA_f, nA_n, nF_k, nF_o, nF_a, nF_f, nF_n, Nat.reduceEqDiff, ↓reduceIte, and_true, true_and, and_false, false_and, reduceCtorEq, xl_0, xl_1, xl_2, nI_add, nI_1, nm_2, nm_3, nm_4, nm_6, nm_7, nm_8, nm_12, nm_16, na_0, na_2, na_3, na_4, na_5, na_6, na_7, na_8, nm_p, nm_m, nI_clamp]); first | exact h0.sc.n3 | exact h0.sc.n4 | exact h0.sc.nbt (by omega) | exact h0.sc.nbh (by omega) | exact h0.sc.nba (by omega) | exact h0.sc.n41 | exact h0.sc.n42 | exact h0.sc.n43 | exact h0.sc.n45 | exact h0.sc.n46 | exact h0.sc.n48 | exact rfl) (by first | ((with_reducible refine vp_in_nI ?_ ?_) <;> omega) | exact i32_in (by omega) (by omega) | exact i32_in' (by simp only [Int32.toInt_add, Int32.toInt_mul, Int32.toInt_sub, Int32.reduceToInt, Int.bmod_add_bmod, Int.bmod_sub_bmod, Int.add_bmod_bmod, Int.sub_bmod_bmod, Int.bmod_mul_bmod, Int.mul_bmod_bmod]; exact i32_bm (by omega) (by omega)) (by omega) (by omega) | exact i32_in (by decide) (by decide)) (by exact ((congrArg (s.2.2.1 (L (38 + b))) (nI_clamp (by omega))).trans (b4 F (by omega)))) dX5_answer_14 ?_
  refine x_istore_n hκ dX5_answer_15 (by rw [hL]; decide) rfl ?_
  refine x_iload_n hκ dX5_answer_16 rfl ?_
  refine x_if_lt (tgt := 39) hκ dX5_answer_17 (by decide) (fun c17 => ?_) (fun c17 => ?_)
  · -- X5_answer 17T
    have i17 := c17
    simp (disch := omega) only [i32_lt, i32_le, i32_eq, Int32.reduceToInt, nI_toInt] at i17
    refine x_iconst (v := 1) hκ dX5_answer_39 (by decide) ?_
    refine x_goto (tgt := 44) hκ dX5_answer_40 (by decide) ?_
    exact go 1 (Tz1 (hfree.mp (Or.inl (by rw [i32_lt] at c17; exact c17))))
  · -- X5_answer 17F
    have i17 := c17
    simp (disch := omega) only [i32_lt, i32_le, i32_eq, Int32.reduceToInt, nI_toInt] at i17
    refine x_aload_n hκ dX5_answer_20 rfl ?_
    refine c_get hκ kX5 (by (try simp (disch := omega) only [oS_k, oS_o, oS_a, oS_f, oS_n, aS_k, aS_o, aS_a, aS_f, aS_n, fS_k, fS_o, fS_a, fS_f, fS_n, nO_k, nO_o, nO_a, nA_k, nA_o, nA_a, nA_f, nA_n, nF_k, nF_o, nF_a, nF_f, nF_n, Nat.reduceEqDiff, ↓reduceIte, and_true, true_and, and_false, false_and, reduceCtorEq, xl_0, xl_1, xl_2, nI_add, nI_1, nm_2, nm_3, nm_4, nm_6, nm_7, nm_8, nm_12, nm_16, na_0, na_2, na_3, na_4, na_5, na_6, na_7, na_8, nm_p, nm_m, nI_clamp]); first | done | assumption | exact h0.sc.k (by decide) | exact h0.sc.kb (by omega) | exact h0.sc.kbt (by omega) | exact h0.sc.kbh (by omega) | exact h0.sc.kba (by omega) | exact h0.sc.kt (by omega) | exact h0.sc.ktl (by omega) | exact h0.sc.ks (by omega) | rfl) 1 (by decide) (Or.inl q568) rfl (by exact a1) dX5_answer_21 ?_
    refine c_get hκ kX16 (by exact l1) 8 (by decide) (Or.inr ⟨_, q766⟩) rfl (by exact w33) dX5_answer_24 ?_
    refine x_iload_n hκ dX5_answer_27 rfl ?_
    refine x_isub hκ dX5_answer_28 ?_
    refine x_aload_n hκ dX5_answer_29 rfl ?_
    refine c_get hκ kX5 (by (try simp (disch := omega) only [oS_k, oS_o, oS_a, oS_f, oS_n, aS_k, aS_o, aS_a, aS_f, aS_n, fS_k, fS_o, fS_a, fS_f, fS_n, nO_k, nO_o, nO_a, nA_k, nA_o, nA_a, nA_f, nA_n, nF_k, nF_o, nF_a, nF_f, nF_n, Nat.reduceEqDiff, ↓reduceIte, and_true, true_and, and_false, false_and, reduceCtorEq, xl_0, xl_1, xl_2, nI_add, nI_1, nm_2, nm_3, nm_4, nm_6, nm_7, nm_8, nm_12, nm_16, na_0, na_2, na_3, na_4, na_5, na_6, na_7, na_8, nm_p, nm_m, nI_clamp]); first | done | assumption | exact h0.sc.k (by decide) | exact h0.sc.kb (by omega) | exact h0.sc.kbt (by omega) | exact h0.sc.kbh (by omega) | exact h0.sc.kba (by omega) | exact h0.sc.kt (by omega) | exact h0.sc.ktl (by omega) | exact h0.sc.ks (by omega) | rfl) 2 (by decide) (Or.inl q570) rfl (by exact a2) dX5_answer_30 ?_
    refine c_get hκ kX2 (by (try simp (disch := omega) only [oS_k, oS_o, oS_a, oS_f, oS_n, aS_k, aS_o, aS_a, aS_f, aS_n, fS_k, fS_o, fS_a, fS_f, fS_n, nO_k, nO_o, nO_a, nA_k, nA_o, nA_a, nA_f, nA_n, nF_k, nF_o, nF_a, nF_f, nF_n, Nat.reduceEqDiff, ↓reduceIte, and_true, true_and, and_false, false_and, reduceCtorEq, xl_0, xl_1, xl_2, nI_add, nI_1, nm_2, nm_3, nm_4, nm_6, nm_7, nm_8, nm_12, nm_16, na_0, na_2, na_3, na_4, na_5, na_6, na_7, na_8, nm_p, nm_m, nI_clamp]); first | done | assumption | exact h0.sc.k (by decide) | exact h0.sc.kb (by omega) | exact h0.sc.kbt (by omega) | exact h0.sc.kbh (by omega) | exact h0.sc.kba (by omega) | exact h0.sc.kt (by omega) | exact h0.sc.ktl (by omega) | exact h0.sc.ks (by omega) | rfl) 4 (by decide) (Or.inr ⟨_, q541⟩) rfl (by exact b1) dX5_answer_33 ?_
    refine x_icmp_lt (tgt := 43) hκ dX5_answer_36 (by decide) (fun c36 => ?_) (fun c36 => ?_)
    · -- X5_answer 36T
      have i36 := c36
      simp (disch := omega) only [i32_lt, i32_le, i32_eq, Int32.reduceToInt, nI_toInt] at i36
      refine x_iconst (v := 0) hκ dX5_answer_43 (by decide) ?_
      exact go 0 (Tz0 (fun q => by rcases hfree.mpr q with w | w; exact c17 (by rw [i32_lt]; exact w); rw [i32_lt] at c36; exact w c36))
    · -- X5_answer 36F
      have i36 := c36
      simp (disch := omega) only [i32_lt, i32_le, i32_eq, Int32.reduceToInt, nI_toInt] at i36
      refine x_iconst (v := 1) hκ dX5_answer_39 (by decide) ?_
      refine x_goto (tgt := 44) hκ dX5_answer_40 (by decide) ?_
      exact go 1 (Tz1 (hfree.mp (Or.inr (by rw [i32_lt] at c36; exact c36))))
