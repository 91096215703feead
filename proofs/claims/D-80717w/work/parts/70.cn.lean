theorem wX0_413 : GoodIn lw_all (wsV RX0 413 RX0 yX0_tally (ws_ yX0_tally cX0_tally 5 (some .int))) := lw_V q997 q999 qs29 q69 q1000
theorem aX0_tally : yX0_tally.cls = RX0 ∧ yX0_tally.cls ≠ "java/lang/invoke/MethodHandle" ∧ yX0_tally.cls ≠ "java/lang/invoke/VarHandle" ∧ (parseMethodDescriptor yX0_tally.desc).map (fun d => d.parameters.length) = some 3 := by decide +kernel
/-! the component: learning -/
theorem CWc.know {E : gE} {L : Nat → Nat} {γ : Gh} {σ : TS} {c : Int32} {s : CSt} (h : CWc E L γ σ c s) {k : Nat} (hk : k < 2) (v : Int32) : CWc E L γ (tA σ 57 k v) c (aS s (L 45) k v) := by
  obtain ⟨a1, a2, a3, a4, a5, a6, a7⟩ := h.at (r := 45) (by omega) (Kp.aS (s := s) (k := k) (v := v) rfl)
  have hf : Fr [57] σ (tA σ 57 k v) := (Fr.rf _ _).A rfl _ _
  refine ⟨h.sc.aS, (a1 (by omega) (by omega)).fr hf rfl, (a2 (by omega)).fr hf rfl, (a3 (by omega) (by omega)).fr hf rfl, (a4 (by omega)).fr hf rfl, ⟨fun j hj => ?_, fun j hj => ?_⟩, (a6 (by omega)).fr hf rfl, a7, h.x⟩
  · rw [aS_a, tA_2, if_pos rfl]
    unfold upd
    by_cases e : j = k
    · rw [if_pos ⟨rfl, e⟩, if_pos e]
    · rw [if_neg (fun z => e z.2), if_neg e]
      exact h.kn.1 j hj
  · rw [aS_a, if_neg (fun z => h.sc.ne (by decide) (by decide) (by decide) z.1)]
    exact h.kn.2 j hj
theorem CWc.word {E : gE} {L : Nat → Nat} {γ : Gh} {σ : TS} {c : Int32} {s : CSt} (h : CWc E L γ σ c s) {k : Nat} (v : Int32) : CWc E L γ (tA σ 58 k v) c (aS s (L 46) k v) := by
  obtain ⟨a1, a2, a3, a4, a5, a6, a7⟩ := h.at (r := 46) (by omega) (Kp.aS (s := s) (k := k) (v := v) rfl)
  have hf : Fr [58] σ (tA σ 58 k v) := (Fr.rf _ _).A rfl _ _
  refine ⟨h.sc.aS, (a1 (by omega) (by omega)).fr hf rfl, (a2 (by omega)).fr hf rfl, (a3 (by omega) (by omega)).fr hf rfl, (a4 (by omega)).fr hf rfl, ⟨fun j hj => ?_, fun j hj => ?_⟩, (a6 (by omega)).fr hf rfl, a7, h.x⟩
  · rw [aS_a, if_neg (fun z => h.sc.ne (by decide) (by decide) (by decide) z.1)]
    exact h.kn.1 j hj
  · rw [aS_a, tA_2, if_pos rfl]
    unfold upd
    by_cases e : j = k
    · rw [if_pos ⟨rfl, e⟩, if_pos e]
    · rw [if_neg (fun z => e z.2), if_neg e]
      exact h.kn.2 j hj
theorem tA_tFs {σ : TS} {k j : Nat} {f : Nat → Int32} {v : Int32} : tA (tF σ k f) k j v = tF σ k (upd f j v) := by
  refine Prod.ext rfl ?_
  funext i
  simp only [tA_2, tF_2, ↓reduceIte]
  by_cases e : i = k
  · rw [if_pos e, if_pos e]
  · rw [if_neg e, if_neg e, if_neg e]
/-- the letters' numbers are known through any CWc -/
theorem mX0_tally {E : gE} {L : Nat → Nat} {γ : Gh} {σ : TS} {c : Int32} {s : CSt} (h : CWc E L γ σ c s) {l k : Nat} (hl : l < vN γ) (hk : k < 2) {b : Int32} : CMg E s yX0_tally cX0_tally 5 (some .int) 2 0 0 [.ref (L 0), .ref (vL γ l), .int (nI k), .int b] (qI (fun r s' => r = σ.2 57 k + b ∧ CWc E L γ (lrn σ l k b) c s')) := by
  refine CMg.of (by decide) (Nat.le_of_ble_eq_true rfl) ?_
  rintro κ rfl hL hκ hr
  have loop : ∀ (n i : Nat) (s1 : CSt), i + n = 12 → CWc (kE κ) L γ (tF (tA σ 57 k (σ.2 57 k + b)) 58 (lrnW (σ.2 58) (σ.2 28 l) b (12 * k) i)) c s1 → X κ (sG (kE κ) s1) 0 0 13 [some (.ref (L 0)), some (.ref (vL γ l)), some (.int (nI k)), some (.int b), some (.int (nI i))] [] := by
    intro n
    induction n with
    | zero =>
      intro i s1 hn h
      obtain rfl : i = 12 := by omega
      have q1 := nI_clamp (n := k) (by omega)
      refine x_iload hκ dX0_tally_13 rfl ?_
      refine x_bipush (v := 12) hκ dX0_tally_15 (by decide) ?_
      refine x_icmp_ge (tgt := 55) hκ dX0_tally_17 (by decide) (fun c17 => ?_) (fun c17 => ?_)
      · -- X0_tally 17T
        have i17 := c17
        simp (disch := omega) only [i32_lt, i32_le, i32_eq, Int32.reduceToInt, nI_toInt] at i17
        refine x_aload_n hκ dX0_tally_55 rfl ?_
        refine c_get hκ kX0 (by (try simp (disch := omega) only [oS_k, oS_o, oS_a, oS_f, oS_n, aS_k, aS_o, aS_a, aS_f, aS_n, fS_k, fS_o, fS_a, fS_f, fS_n, nO_k, nO_o, nO_a, nA_k, nA_o, nA_a, nA_f, nA_n, nF_k, nF_o, nF_a, nF_f, nF_n, Nat.reduceEqDiff, ↓reduceIte, and_true, true_and, and_false, false_and, reduceCtorEq, xl_0, xl_1, xl_2, nI_add, nI_1, nm_2, nm_3, nm_4, nm_6, nm_7, nm_8, nm_12, nm_16, na_0, na_2, na_3, na_4, na_5, na_6, na_7, na_8, nm_p, nm_m, nI_clamp]); first | done | assumption | exact h.sc.k (by decide) | exact h.sc.kb (by omega) | exact h.sc.kbt (by omega) | exact h.sc.kbh (by omega) | exact h.sc.kba (by omega) | exact h.sc.kt (by omega) | exact h.sc.ktl (by omega) | exact h.sc.ks (by omega) | rfl) 18 (by decide) (Or.inl q648) rfl (by (try simp (disch := omega) only [oS_k, oS_o, oS_a, oS_f, oS_n, aS_k, aS_o, aS_a, aS_f, aS_n, fS_k, fS_o, fS_a, fS_f, fS_n, nO_k, nO_o, nO_a, nA_k, nA_o, nA_a, nA_f, nA_n, nF_k, nF_o, nF_a, nF_f, nF_n, Nat.reduceEqDiff, ↓reduceIte, and_true, true_and, and_false, false_and, reduceCtorEq, xl_0, xl_1, xl_2, nI_add, nI_1, nm_2, nm_3, nm_4, nm_6, nm_7, nm_8, nm_12, nm_16, na_0, na_2, na_3, na_4, na_5, na_6, na_7, na_8, nm_p, nm_m, nI_clamp]); first | exact h.sc.o (by decide) rfl | exact h.sc.ob1 (by omega) | exact h.sc.ob2 (by omega) | exact h.sc.ob3 (by omega) | exact h.sc.ot (by omega) | exact h.sc.fb (by omega) | exact h.sc.ft (by omega) (by omega) | exact h.sc.fs (by omega) | exact h.p.1 | exact h.p.2.2.2.2.1 | exact h.p.2.2.2.2.2.1 | exact h.p.2.2.2.2.2.2.1 | exact h.p.2.2.2.2.2.2.2.1 | exact h.p.2.2.2.2.2.2.2.2.1 | exact rfl) dX0_tally_56 ?_
        refine x_iload_n hκ dX0_tally_59 rfl ?_
        refine c_iald hκ (by (try simp (disch := omega) only [oS_k, oS_o, oS_a, oS_f, oS_n, aS_k, aS_o, aS_a, aS_f, aS_n, fS_k, fS_o, fS_a, fS_f, fS_n, nO_k, nO_o, nO_a, nA_k, nA_o, nA_a, nA_f, nA_n, nF_k, nF_o, nF_a, nF_f, nF_n, Nat.reduceEqDiff, ↓reduceIte, and_true, true_and, and_false, false_and, reduceCtorEq, xl_0, xl_1, xl_2, nI_add, nI_1, nm_2, nm_3, nm_4, nm_6, nm_7, nm_8, nm_12, nm_16, na_0, na_2, na_3, na_4, na_5, na_6, na_7, na_8, nm_p, nm_m, nI_clamp]); first | done | assumption | exact h.sc.k (by decide) | exact h.sc.kb (by omega) | exact h.sc.kbt (by omega) | exact h.sc.kbh (by omega) | exact h.sc.kba (by omega) | exact h.sc.kt (by omega) | exact h.sc.ktl (by omega) | exact h.sc.ks (by omega) | rfl) (by (try simp (disch := omega) only [oS_k, oS_o, oS_a, oS_f, oS_n, aS_k, aS_o, aS_a, aS_f, aS_n, fS_k, fS_o, fS_a, fS_f, fS_n, nO_k, nO_o, nO_a, nA_k, nA_o, nA_a, nA_f, nA_n, nF_k, nF_o, nF_a, nF_f, nF_n, Nat.reduceEqDiff, ↓reduceIte, and_true, true_and, and_false, false_and, reduceCtorEq, xl_0, xl_1, xl_2, nI_add, nI_1, nm_2, nm_3, nm_4, nm_6, nm_7, nm_8, nm_12, nm_16, na_0, na_2, na_3, na_4, na_5, na_6, na_7, na_8, nm_p, nm_m, nI_clamp]); first | exact h.sc.n3 | exact h.sc.n4 | exact h.sc.nbt (by omega) | exact h.sc.nbh (by omega) | exact h.sc.nba (by omega) | exact h.sc.n41 | exact h.sc.n42 | exact h.sc.n43 | exact h.sc.n45 | exact h.sc.n46 | exact h.sc.n48 | exact rfl) (by first | ((with_reducible refine vp_in_nI ?_ ?_) <;> omega) | exact i32_in (by omega) (by omega) | exact i32_in' (by simp only [Int32.toInt_add, Int32.toInt_mul, Int32.toInt_sub, Int32.reduceToInt, Int.bmod_add_bmod, Int.bmod_sub_bmod, Int.add_bmod_bmod, Int.sub_bmod_bmod, Int.bmod_mul_bmod, Int.mul_bmod_bmod]; exact i32_bm (by omega) (by omega)) (by omega) (by omega) | exact i32_in (by decide) (by decide)) (by exact ((congrArg (s1.2.2.1 (L 45)) q1).trans (h.kn.1 k hk))) dX0_tally_60 ?_
        refine c_reti hκ hr dX0_tally_61 ?_
        refine ⟨?_, h⟩
        simp only [tF_2, tA_2, Nat.reduceEqDiff, ↓reduceIte, upd]
      · -- X0_tally 17F
        have i17 := c17
        simp (disch := omega) only [i32_lt, i32_le, i32_eq, Int32.reduceToInt, nI_toInt] at i17
        exact absurd (by decide) c17
    | succ n ih =>
      intro i s1 hn h
      have hi := nI_toInt (n := i) (by omega)
      obtain ⟨l1, l2, l3, l4⟩ := h.lt hl
      have lw : s1.2.1 (vL γ l) 3 = .int (σ.2 28 l) := l4 3 (by decide) (by decide)
      have kw : s1.2.2.1 (L 46) (12 * k + i) = lrnW (σ.2 58) (σ.2 28 l) b (12 * k) i (12 * k + i) := h.kn.2 (12 * k + i) (by omega)
      have q := fun (v : Int32) (e : upd (lrnW (σ.2 58) (σ.2 28 l) b (12 * k) i) (12 * k + i) v = lrnW (σ.2 58) (σ.2 28 l) b (12 * k) (i + 1)) => ih (i + 1) (aS s1 (L 46) (12 * k + i) v) (by omega) (by have hw := h.word (k := 12 * k + i) v; rw [tA_tFs, e] at hw; exact hw)
      refine x_iload hκ dX0_tally_13 rfl ?_
      refine x_bipush (v := 12) hκ dX0_tally_15 (by decide) ?_
      refine x_icmp_ge (tgt := 55) hκ dX0_tally_17 (by decide) (fun c17 => ?_) (fun c17 => ?_)
      · -- X0_tally 17T
        have i17 := c17
        simp (disch := omega) only [i32_lt, i32_le, i32_eq, Int32.reduceToInt, nI_toInt] at i17
        omega
      · -- X0_tally 17F
        have i17 := c17
        simp (disch := omega) only [i32_lt, i32_le, i32_eq, Int32.reduceToInt, nI_toInt] at i17
        refine x_aload_n hκ dX0_tally_20 rfl ?_
        refine c_get hκ kX0 (by (try simp (disch := omega) only [oS_k, oS_o, oS_a, oS_f, oS_n, aS_k, aS_o, aS_a, aS_f, aS_n, fS_k, fS_o, fS_a, fS_f, fS_n, nO_k, nO_o, nO_a, nA_k, nA_o, nA_a, nA_f, nA_n, nF_k, nF_o, nF_a, nF_f, nF_n, Nat.reduceEqDiff, ↓reduceIte, and_true, true_and, and_false, false_and, reduceCtorEq, xl_0, xl_1, xl_2, nI_add, nI_1, nm_2, nm_3, nm_4, nm_6, nm_7, nm_8, nm_12, nm_16, na_0, na_2, na_3, na_4, na_5, na_6, na_7, na_8, nm_p, nm_m, nI_clamp]); first | done | assumption | exact h.sc.k (by decide) | exact h.sc.kb (by omega) | exact h.sc.kbt (by omega) | exact h.sc.kbh (by omega) | exact h.sc.kba (by omega) | exact h.sc.kt (by omega) | exact h.sc.ktl (by omega) | exact h.sc.ks (by omega) | rfl) 19 (by decide) (Or.inl q649) rfl (by (try simp (disch := omega) only [oS_k, oS_o, oS_a, oS_f, oS_n, aS_k, aS_o, aS_a, aS_f, aS_n, fS_k, fS_o, fS_a, fS_f, fS_n, nO_k, nO_o, nO_a, nA_k, nA_o, nA_a, nA_f, nA_n, nF_k, nF_o, nF_a, nF_f, nF_n, Nat.reduceEqDiff, ↓reduceIte, and_true, true_and, and_false, false_and, reduceCtorEq, xl_0, xl_1, xl_2, nI_add, nI_1, nm_2, nm_3, nm_4, nm_6, nm_7, nm_8, nm_12, nm_16, na_0, na_2, na_3, na_4, na_5, na_6, na_7, na_8, nm_p, nm_m, nI_clamp]); first | exact h.sc.o (by decide) rfl | exact h.sc.ob1 (by omega) | exact h.sc.ob2 (by omega) | exact h.sc.ob3 (by omega) | exact h.sc.ot (by omega) | exact h.sc.fb (by omega) | exact h.sc.ft (by omega) (by omega) | exact h.sc.fs (by omega) | exact h.p.1 | exact h.p.2.2.2.2.1 | exact h.p.2.2.2.2.2.1 | exact h.p.2.2.2.2.2.2.1 | exact h.p.2.2.2.2.2.2.2.1 | exact h.p.2.2.2.2.2.2.2.2.1 | exact rfl) dX0_tally_21 ?_
        refine x_bipush (v := 12) hκ dX0_tally_24 (by decide) ?_
        refine x_iload_n hκ dX0_tally_26 rfl ?_
        refine x_imulN hκ (by (try simp (disch := omega) only [oS_k, oS_o, oS_a, oS_f, oS_n, aS_k, aS_o, aS_a, aS_f, aS_n, fS_k, fS_o, fS_a, fS_f, fS_n, nO_k, nO_o, nO_a, nA_k, nA_o, nA_a, nA_f, nA_n, nF_k, nF_o, nF_a, nF_f, nF_n, Nat.reduceEqDiff, ↓reduceIte, and_true, true_and, and_false, false_and, reduceCtorEq, xl_0, xl_1, xl_2, nI_add, nI_1, nm_2, nm_3, nm_4, nm_6, nm_7, nm_8, nm_12, nm_16, na_0, na_2, na_3, na_4, na_5, na_6, na_7, na_8, nm_p, nm_m, nI_clamp]); first | exact h.sc.o (by decide) rfl | exact h.sc.ob1 (by omega) | exact h.sc.ob2 (by omega) | exact h.sc.ob3 (by omega) | exact h.sc.ot (by omega) | exact h.sc.fb (by omega) | exact h.sc.ft (by omega) (by omega) | exact h.sc.fs (by omega) | exact h.p.1 | exact h.p.2.2.2.2.1 | exact h.p.2.2.2.2.2.1 | exact h.p.2.2.2.2.2.2.1 | exact h.p.2.2.2.2.2.2.2.1 | exact h.p.2.2.2.2.2.2.2.2.1 | exact rfl) dX0_tally_27 ?_
        refine x_iload hκ dX0_tally_28 rfl ?_
        refine x_iaddN hκ (by (try simp (disch := omega) only [oS_k, oS_o, oS_a, oS_f, oS_n, aS_k, aS_o, aS_a, aS_f, aS_n, fS_k, fS_o, fS_a, fS_f, fS_n, nO_k, nO_o, nO_a, nA_k, nA_o, nA_a, nA_f, nA_n, nF_k, nF_o, nF_a, nF_f, nF_n, Nat.reduceEqDiff, ↓reduceIte, and_true, true_and, and_false, false_and, reduceCtorEq, xl_0, xl_1, xl_2, nI_add, nI_1, nm_2, nm_3, nm_4, nm_6, nm_7, nm_8, nm_12, nm_16, na_0, na_2, na_3, na_4, na_5, na_6, na_7, na_8, nm_p, nm_m, nI_clamp]); first | exact h.sc.o (by decide) rfl | exact h.sc.ob1 (by omega) | exact h.sc.ob2 (by omega) | exact h.sc.ob3 (by omega) | exact h.sc.ot (by omega) | exact h.sc.fb (by omega) | exact h.sc.ft (by omega) (by omega) | exact h.sc.fs (by omega) | exact h.p.1 | exact h.p.2.2.2.2.1 | exact h.p.2.2.2.2.2.1 | exact h.p.2.2.2.2.2.2.1 | exact h.p.2.2.2.2.2.2.2.1 | exact h.p.2.2.2.2.2.2.2.2.1 | exact rfl) dX0_tally_30 ?_
        refine x_dup2 hκ dX0_tally_31 rfl rfl ?_
        refine c_iald hκ (by (try simp (disch := omega) only [oS_k, oS_o, oS_a, oS_f, oS_n, aS_k, aS_o, aS_a, aS_f, aS_n, fS_k, fS_o, fS_a, fS_f, fS_n, nO_k, nO_o, nO_a, nA_k, nA_o, nA_a, nA_f, nA_n, nF_k, nF_o, nF_a, nF_f, nF_n, Nat.reduceEqDiff, ↓reduceIte, and_true, true_and, and_false, false_and, reduceCtorEq, xl_0, xl_1, xl_2, nI_add, nI_1, nm_2, nm_3, nm_4, nm_6, nm_7, nm_8, nm_12, nm_16, na_0, na_2, na_3, na_4, na_5, na_6, na_7, na_8, nm_p, nm_m, nI_clamp]); first | done | assumption | exact h.sc.k (by decide) | exact h.sc.kb (by omega) | exact h.sc.kbt (by omega) | exact h.sc.kbh (by omega) | exact h.sc.kba (by omega) | exact h.sc.kt (by omega) | exact h.sc.ktl (by omega) | exact h.sc.ks (by omega) | rfl) (by (try simp (disch := omega) only [oS_k, oS_o, oS_a, oS_f, oS_n, aS_k, aS_o, aS_a, aS_f, aS_n, fS_k, fS_o, fS_a, fS_f, fS_n, nO_k, nO_o, nO_a, nA_k, nA_o, nA_a, nA_f, nA_n, nF_k, nF_o, nF_a, nF_f, nF_n, Nat.reduceEqDiff, ↓reduceIte, and_true, true_and, and_false, false_and, reduceCtorEq, xl_0, xl_1, xl_2, nI_add, nI_1, nm_2, nm_3, nm_4, nm_6, nm_7, nm_8, nm_12, nm_16, na_0, na_2, na_3, na_4, na_5, na_6, na_7, na_8, nm_p, nm_m, nI_clamp]); first | exact h.sc.n3 | exact h.sc.n4 | exact h.sc.nbt (by omega) | exact h.sc.nbh (by omega) | exact h.sc.nba (by omega) | exact h.sc.n41 | exact h.sc.n42 | exact h.sc.n43 | exact h.sc.n45 | exact h.sc.n46 | exact h.sc.n48 | exact rfl) (by first | ((with_reducible refine vp_in_nI ?_ ?_) <;> omega) | exact i32_in (by omega) (by omega) | exact i32_in' (by simp only [Int32.toInt_add, Int32.toInt_mul, Int32.toInt_sub, Int32.reduceToInt, Int.bmod_add_bmod, Int.bmod_sub_bmod, Int.add_bmod_bmod, Int.sub_bmod_bmod, Int.bmod_mul_bmod, Int.mul_bmod_bmod]; exact i32_bm (by omega) (by omega)) (by omega) (by omega) | exact i32_in (by decide) (by decide)) (by exact ((congrArg (s1.2.2.1 (L 46)) (nI_clamp (by omega))).trans kw)) dX0_tally_32 ?_
        refine x_aload_n hκ dX0_tally_33 rfl ?_
        refine x_iload hκ dX0_tally_34 rfl ?_
        refine c_callV  hκ (mX16_hasWord l1 lw) (by omega) (by decide) wX0_408 aX16_hasWord kX16 (by exact l1) rfl (Nat.le_of_ble_eq_true rfl) dX0_tally_36 (jIr (fun r36 h36 => ?_))
        refine x_if_eq (tgt := 46) hκ dX0_tally_39 (by decide) (fun c39 => ?_) (fun c39 => ?_)
        · -- X0_tally 39T
          have i39 := h36.f c39
          try simp only [Int32.reduceToInt] at i39
          refine x_iconst (v := 0) hκ dX0_tally_46 (by decide) ?_
          refine x_iadd hκ dX0_tally_47 ?_
          refine c_iast hκ (by (try simp (disch := omega) only [oS_k, oS_o, oS_a, oS_f, oS_n, aS_k, aS_o, aS_a, aS_f, aS_n, fS_k, fS_o, fS_a, fS_f, fS_n, nO_k, nO_o, nO_a, nA_k, nA_o, nA_a, nA_f, nA_n, nF_k, nF_o, nF_a, nF_f, nF_n, Nat.reduceEqDiff, ↓reduceIte, and_true, true_and, and_false, false_and, reduceCtorEq, xl_0, xl_1, xl_2, nI_add, nI_1, nm_2, nm_3, nm_4, nm_6, nm_7, nm_8, nm_12, nm_16, na_0, na_2, na_3, na_4, na_5, na_6, na_7, na_8, nm_p, nm_m, nI_clamp]); first | done | assumption | exact h.sc.k (by decide) | exact h.sc.kb (by omega) | exact h.sc.kbt (by omega) | exact h.sc.kbh (by omega) | exact h.sc.kba (by omega) | exact h.sc.kt (by omega) | exact h.sc.ktl (by omega) | exact h.sc.ks (by omega) | rfl) (by (try simp (disch := omega) only [oS_k, oS_o, oS_a, oS_f, oS_n, aS_k, aS_o, aS_a, aS_f, aS_n, fS_k, fS_o, fS_a, fS_f, fS_n, nO_k, nO_o, nO_a, nA_k, nA_o, nA_a, nA_f, nA_n, nF_k, nF_o, nF_a, nF_f, nF_n, Nat.reduceEqDiff, ↓reduceIte, and_true, true_and, and_false, false_and, reduceCtorEq, xl_0, xl_1, xl_2, nI_add, nI_1, nm_2, nm_3, nm_4, nm_6, nm_7, nm_8, nm_12, nm_16, na_0, na_2, na_3, na_4, na_5, na_6, na_7, na_8, nm_p, nm_m, nI_clamp]); first | exact h.sc.n3 | exact h.sc.n4 | exact h.sc.nbt (by omega) | exact h.sc.nbh (by omega) | exact h.sc.nba (by omega) | exact h.sc.n41 | exact h.sc.n42 | exact h.sc.n43 | exact h.sc.n45 | exact h.sc.n46 | exact h.sc.n48 | exact rfl) (by first | ((with_reducible refine vp_in_nI ?_ ?_) <;> omega) | exact i32_in (by omega) (by omega) | exact i32_in' (by simp only [Int32.toInt_add, Int32.toInt_mul, Int32.toInt_sub, Int32.reduceToInt, Int.bmod_add_bmod, Int.bmod_sub_bmod, Int.add_bmod_bmod, Int.sub_bmod_bmod, Int.bmod_mul_bmod, Int.mul_bmod_bmod]; exact i32_bm (by omega) (by omega)) (by omega) (by omega) | exact i32_in (by decide) (by decide)) (by (try simp (disch := omega) only [oS_k, oS_o, oS_a, oS_f, oS_n, aS_k, aS_o, aS_a, aS_f, aS_n, fS_k, fS_o, fS_a, fS_f, fS_n, nO_k, nO_o, nO_a, nA_k, nA_o, nA_a, nA_f, nA_n, nF_k, nF_o, nF_a, nF_f, nF_n, Nat.reduceEqDiff, ↓reduceIte, and_true, true_and, and_false, false_and, reduceCtorEq, xl_0, xl_1, xl_2, nI_add, nI_1, nm_2, nm_3, nm_4, nm_6, nm_7, nm_8, nm_12, nm_16, na_0, na_2, na_3, na_4, na_5, na_6, na_7, na_8, nm_p, nm_m, nI_clamp]); first | exact h.sc.o (by decide) rfl | exact h.sc.ob1 (by omega) | exact h.sc.ob2 (by omega) | exact h.sc.ob3 (by omega) | exact h.sc.ot (by omega) | exact h.sc.fb (by omega) | exact h.sc.ft (by omega) (by omega) | exact h.sc.fs (by omega) | exact h.p.1 | exact h.p.2.2.2.2.1 | exact h.p.2.2.2.2.2.1 | exact h.p.2.2.2.2.2.2.1 | exact h.p.2.2.2.2.2.2.2.1 | exact h.p.2.2.2.2.2.2.2.2.1 | exact rfl) dX0_tally_48 ?_
          refine x_iincN (y := 1) hκ dX0_tally_49 (by decide) rfl (by rw [hL]; decide) rfl (by (try simp (disch := omega) only [oS_k, oS_o, oS_a, oS_f, oS_n, aS_k, aS_o, aS_a, aS_f, aS_n, fS_k, fS_o, fS_a, fS_f, fS_n, nO_k, nO_o, nO_a, nA_k, nA_o, nA_a, nA_f, nA_n, nF_k, nF_o, nF_a, nF_f, nF_n, Nat.reduceEqDiff, ↓reduceIte, and_true, true_and, and_false, false_and, reduceCtorEq, xl_0, xl_1, xl_2, nI_add, nI_1, nm_2, nm_3, nm_4, nm_6, nm_7, nm_8, nm_12, nm_16, na_0, na_2, na_3, na_4, na_5, na_6, na_7, na_8, nm_p, nm_m, nI_clamp]); first | exact h.sc.o (by decide) rfl | exact h.sc.ob1 (by omega) | exact h.sc.ob2 (by omega) | exact h.sc.ob3 (by omega) | exact h.sc.ot (by omega) | exact h.sc.fb (by omega) | exact h.sc.ft (by omega) (by omega) | exact h.sc.fs (by omega) | exact h.p.1 | exact h.p.2.2.2.2.1 | exact h.p.2.2.2.2.2.1 | exact h.p.2.2.2.2.2.2.1 | exact h.p.2.2.2.2.2.2.2.1 | exact h.p.2.2.2.2.2.2.2.2.1 | exact rfl) ?_
          refine x_goto (tgt := 13) hκ dX0_tally_52 (by decide) ?_
          exact q _ (by rw [lrnW, if_neg i39])
        · -- X0_tally 39F
          have i39 := h36.t c39
          try simp only [Int32.reduceToInt] at i39
          refine x_iload_n hκ dX0_tally_42 rfl ?_
          refine x_goto (tgt := 47) hκ dX0_tally_43 (by decide) ?_
          refine x_iadd hκ dX0_tally_47 ?_
          refine c_iast hκ (by (try simp (disch := omega) only [oS_k, oS_o, oS_a, oS_f, oS_n, aS_k, aS_o, aS_a, aS_f, aS_n, fS_k, fS_o, fS_a, fS_f, fS_n, nO_k, nO_o, nO_a, nA_k, nA_o, nA_a, nA_f, nA_n, nF_k, nF_o, nF_a, nF_f, nF_n, Nat.reduceEqDiff, ↓reduceIte, and_true, true_and, and_false, false_and, reduceCtorEq, xl_0, xl_1, xl_2, nI_add, nI_1, nm_2, nm_3, nm_4, nm_6, nm_7, nm_8, nm_12, nm_16, na_0, na_2, na_3, na_4, na_5, na_6, na_7, na_8, nm_p, nm_m, nI_clamp]); first | done | assumption | exact h.sc.k (by decide) | exact h.sc.kb (by omega) | exact h.sc.kbt (by omega) | exact h.sc.kbh (by omega) | exact h.sc.kba (by omega) | exact h.sc.kt (by omega) | exact h.sc.ktl (by omega) | exact h.sc.ks (by omega) | rfl) (by (try simp (disch := omega) only [oS_k, oS_o, oS_a, oS_f, oS_n, aS_k, aS_o, aS_a, aS_f, aS_n, fS_k, fS_o, fS_a, fS_f, fS_n, nO_k, nO_o, nO_a, nA_k, nA_o, nA_a, nA_f, nA_n, nF_k, nF_o, nF_a, nF_f, nF_n, Nat.reduceEqDiff, ↓reduceIte, and_true, true_and, and_false, false_and, reduceCtorEq, xl_0, xl_1, xl_2, nI_add, nI_1, nm_2, nm_3, nm_4, nm_6, nm_7, nm_8, nm_12, nm_16, na_0, na_2, na_3, na_4, na_5, na_6, na_7, na_8, nm_p, nm_m, nI_clamp]); first | exact h.sc.n3 | exact h.sc.n4 | exact h.sc.nbt (by omega) | exact h.sc.nbh (by omega) | exact h.sc.nba (by omega) | exact h.sc.n41 | exact h.sc.n42 | exact h.sc.n43 | exact h.sc.n45 | exact h.sc.n46 | exact h.sc.n48 | exact rfl) (by first | ((with_reducible refine vp_in_nI ?_ ?_) <;> omega) | exact i32_in (by omega) (by omega) | exact i32_in' (by simp only [Int32.toInt_add, Int32.toInt_mul, Int32.toInt_sub, Int32.reduceToInt, Int.bmod_add_bmod, Int.bmod_sub_bmod, Int.add_bmod_bmod, Int.sub_bmod_bmod, Int.bmod_mul_bmod, Int.mul_bmod_bmod]; exact i32_bm (by omega) (by omega)) (by omega) (by omega) | exact i32_in (by decide) (by decide)) (by (try simp (disch := omega) only [oS_k, oS_o, oS_a, oS_f, oS_n, aS_k, aS_o, aS_a, aS_f, aS_n, fS_k, fS_o, fS_a, fS_f, fS_n, nO_k, nO_o, nO_a, nA_k, nA_o, nA_a, nA_f, nA_n, nF_k, nF_o, nF_a, nF_f, nF_n, Nat.reduceEqDiff, ↓reduceIte, and_true, true_and, and_false, false_and, reduceCtorEq, xl_0, xl_1, xl_2, nI_add, nI_1, nm_2, nm_3, nm_4, nm_6, nm_7, nm_8, nm_12, nm_16, na_0, na_2, na_3, na_4, na_5, na_6, na_7, na_8, nm_p, nm_m, nI_clamp]); first | exact h.sc.o (by decide) rfl | exact h.sc.ob1 (by omega) | exact h.sc.ob2 (by omega) | exact h.sc.ob3 (by omega) | exact h.sc.ot (by omega) | exact h.sc.fb (by omega) | exact h.sc.ft (by omega) (by omega) | exact h.sc.fs (by omega) | exact h.p.1 | exact h.p.2.2.2.2.1 | exact h.p.2.2.2.2.2.1 | exact h.p.2.2.2.2.2.2.1 | exact h.p.2.2.2.2.2.2.2.1 | exact h.p.2.2.2.2.2.2.2.2.1 | exact rfl) dX0_tally_48 ?_
          refine x_iincN (y := 1) hκ dX0_tally_49 (by decide) rfl (by rw [hL]; decide) rfl (by (try simp (disch := omega) only [oS_k, oS_o, oS_a, oS_f, oS_n, aS_k, aS_o, aS_a, aS_f, aS_n, fS_k, fS_o, fS_a, fS_f, fS_n, nO_k, nO_o, nO_a, nA_k, nA_o, nA_a, nA_f, nA_n, nF_k, nF_o, nF_a, nF_f, nF_n, Nat.reduceEqDiff, ↓reduceIte, and_true, true_and, and_false, false_and, reduceCtorEq, xl_0, xl_1, xl_2, nI_add, nI_1, nm_2, nm_3, nm_4, nm_6, nm_7, nm_8, nm_12, nm_16, na_0, na_2, na_3, na_4, na_5, na_6, na_7, na_8, nm_p, nm_m, nI_clamp]); first | exact h.sc.o (by decide) rfl | exact h.sc.ob1 (by omega) | exact h.sc.ob2 (by omega) | exact h.sc.ob3 (by omega) | exact h.sc.ot (by omega) | exact h.sc.fb (by omega) | exact h.sc.ft (by omega) (by omega) | exact h.sc.fs (by omega) | exact h.p.1 | exact h.p.2.2.2.2.1 | exact h.p.2.2.2.2.2.1 | exact h.p.2.2.2.2.2.2.1 | exact h.p.2.2.2.2.2.2.2.1 | exact h.p.2.2.2.2.2.2.2.2.1 | exact rfl) ?_
          refine x_goto (tgt := 13) hκ dX0_tally_52 (by decide) ?_
          exact q _ (by rw [lrnW, if_pos i39])
  refine x_aload_n hκ dX0_tally_0 rfl ?_
  refine c_get hκ kX0 (by (try simp (disch := omega) only [oS_k, oS_o, oS_a, oS_f, oS_n, aS_k, aS_o, aS_a, aS_f, aS_n, fS_k, fS_o, fS_a, fS_f, fS_n, nO_k, nO_o, nO_a, nA_k, nA_o, nA_a, nA_f, nA_n, nF_k, nF_o, nF_a, nF_f, nF_n, Nat.reduceEqDiff, ↓reduceIte, and_true, true_and, and_false, false_and, reduceCtorEq, xl_0, xl_1, xl_2, nI_add, nI_1, nm_2, nm_3, nm_4, nm_6, nm_7, nm_8, nm_12, nm_16, na_0, na_2, na_3, na_4, na_5, na_6, na_7, na_8, nm_p, nm_m, nI_clamp]); first | done | assumption | exact h.sc.k (by decide) | exact h.sc.kb (by omega) | exact h.sc.kbt (by omega) | exact h.sc.kbh (by omega) | exact h.sc.kba (by omega) | exact h.sc.kt (by omega) | exact h.sc.ktl (by omega) | exact h.sc.ks (by omega) | rfl) 18 (by decide) (Or.inl q648) rfl (by (try simp (disch := omega) only [oS_k, oS_o, oS_a, oS_f, oS_n, aS_k, aS_o, aS_a, aS_f, aS_n, fS_k, fS_o, fS_a, fS_f, fS_n, nO_k, nO_o, nO_a, nA_k, nA_o, nA_a, nA_f, nA_n, nF_k, nF_o, nF_a, nF_f, nF_n, Nat.reduceEqDiff, ↓reduceIte, and_true, true_and, and_false, false_and, reduceCtorEq, xl_0, xl_1, xl_2, nI_add, nI_1, nm_2, nm_3, nm_4, nm_6, nm_7, nm_8, nm_12, nm_16, na_0, na_2, na_3, na_4, na_5, na_6, na_7, na_8, nm_p, nm_m, nI_clamp]); first | exact h.sc.o (by decide) rfl | exact h.sc.ob1 (by omega) | exact h.sc.ob2 (by omega) | exact h.sc.ob3 (by omega) | exact h.sc.ot (by omega) | exact h.sc.fb (by omega) | exact h.sc.ft (by omega) (by omega) | exact h.sc.fs (by omega) | exact h.p.1 | exact h.p.2.2.2.2.1 | exact h.p.2.2.2.2.2.1 | exact h.p.2.2.2.2.2.2.1 | exact h.p.2.2.2.2.2.2.2.1 | exact h.p.2.2.2.2.2.2.2.2.1 | exact rfl) dX0_tally_1 ?_
  refine x_iload_n hκ dX0_tally_4 rfl ?_
  refine x_dup2 hκ dX0_tally_5 rfl rfl ?_
  refine c_iald hκ (by (try simp (disch := omega) only [oS_k, oS_o, oS_a, oS_f, oS_n, aS_k, aS_o, aS_a, aS_f, aS_n, fS_k, fS_o, fS_a, fS_f, fS_n, nO_k, nO_o, nO_a, nA_k, nA_o, nA_a, nA_f, nA_n, nF_k, nF_o, nF_a, nF_f, nF_n, Nat.reduceEqDiff, ↓reduceIte, and_true, true_and, and_false, false_and, reduceCtorEq, xl_0, xl_1, xl_2, nI_add, nI_1, nm_2, nm_3, nm_4, nm_6, nm_7, nm_8, nm_12, nm_16, na_0, na_2, na_3, na_4, na_5, na_6, na_7, na_8, nm_p, nm_m, nI_clamp]); first | done | assumption | exact h.sc.k (by decide) | exact h.sc.kb (by omega) | exact h.sc.kbt (by omega) | exact h.sc.kbh (by omega) | exact h.sc.kba (by omega) | exact h.sc.kt (by omega) | exact h.sc.ktl (by omega) | exact h.sc.ks (by omega) | rfl) (by (try simp (disch := omega) only [oS_k, oS_o, oS_a, oS_f, oS_n, aS_k, aS_o, aS_a, aS_f, aS_n, fS_k, fS_o, fS_a, fS_f, fS_n, nO_k, nO_o, nO_a, nA_k, nA_o, nA_a, nA_f, nA_n, nF_k, nF_o, nF_a, nF_f, nF_n, Nat.reduceEqDiff, ↓reduceIte, and_true, true_and, and_false, false_and, reduceCtorEq, xl_0, xl_1, xl_2, nI_add, nI_1, nm_2, nm_3, nm_4, nm_6, nm_7, nm_8, nm_12, nm_16, na_0, na_2, na_3, na_4, na_5, na_6, na_7, na_8, nm_p, nm_m, nI_clamp]); first | exact h.sc.n3 | exact h.sc.n4 | exact h.sc.nbt (by omega) | exact h.sc.nbh (by omega) | exact h.sc.nba (by omega) | exact h.sc.n41 | exact h.sc.n42 | exact h.sc.n43 | exact h.sc.n45 | exact h.sc.n46 | exact h.sc.n48 | exact rfl) (by first | ((with_reducible refine vp_in_nI ?_ ?_) <;> omega) | exact i32_in (by omega) (by omega) | exact i32_in' (by simp only [Int32.toInt_add, Int32.toInt_mul, Int32.toInt_sub, Int32.reduceToInt, Int.bmod_add_bmod, Int.bmod_sub_bmod, Int.add_bmod_bmod, Int.sub_bmod_bmod, Int.bmod_mul_bmod, Int.mul_bmod_bmod]; exact i32_bm (by omega) (by omega)) (by omega) (by omega) | exact i32_in (by decide) (by decide)) (by exact ((congrArg (s.2.2.1 (L 45)) (nI_clamp (by omega))).trans (h.kn.1 k hk))) dX0_tally_6 ?_
  refine x_iload_n hκ dX0_tally_7 rfl ?_
  refine x_iadd hκ dX0_tally_8 ?_
  refine c_iast hκ (by (try simp (disch := omega) only [oS_k, oS_o, oS_a, oS_f, oS_n, aS_k, aS_o, aS_a, aS_f, aS_n, fS_k, fS_o, fS_a, fS_f, fS_n, nO_k, nO_o, nO_a, nA_k, nA_o, nA_a, nA_f, nA_n, nF_k, nF_o, nF_a, nF_f, nF_n, Nat.reduceEqDiff, ↓reduceIte, and_true, true_and, and_false, false_and, reduceCtorEq, xl_0, xl_1, xl_2, nI_add, nI_1, nm_2, nm_3, nm_4, nm_6, nm_7, nm_8, nm_12, nm_16, na_0, na_2, na_3, na_4, na_5, na_6, na_7, na_8, nm_p, nm_m, nI_clamp]); first | done | assumption | exact h.sc.k (by decide) | exact h.sc.kb (by omega) | exact h.sc.kbt (by omega) | exact h.sc.kbh (by omega) | exact h.sc.kba (by omega) | exact h.sc.kt (by omega) | exact h.sc.ktl (by omega) | exact h.sc.ks (by omega) | rfl) (by (try simp (disch := omega) only [oS_k, oS_o, oS_a, oS_f, oS_n, aS_k, aS_o, aS_a, aS_f, aS_n, fS_k, fS_o, fS_a, fS_f, fS_n, nO_k, nO_o, nO_a, nA_k, nA_o, nA_a, nA_f, nA_n, nF_k, nF_o, nF_a, nF_f, nF_n, Nat.reduceEqDiff, ↓reduceIte, and_true, true_and, and_false, false_and, reduceCtorEq, xl_0, xl_1, xl_2, nI_add, nI_1, nm_2, nm_3, nm_4, nm_6, nm_7, nm_8, nm_12, nm_16, na_0, na_2, na_3, na_4, na_5, na_6, na_7, na_8, nm_p, nm_m, nI_clamp]); first | exact h.sc.n3 | exact h.sc.n4 | exact h.sc.nbt (by omega) | exact h.sc.nbh (by omega) | exact h.sc.nba (by omega) | exact h.sc.n41 | exact h.sc.n42 | exact h.sc.n43 | exact h.sc.n45 | exact h.sc.n46 | exact h.sc.n48 | exact rfl) (by first | ((with_reducible refine vp_in_nI ?_ ?_) <;> omega) | exact i32_in (by omega) (by omega) | exact i32_in' (by simp only [Int32.toInt_add, Int32.toInt_mul, Int32.toInt_sub, Int32.reduceToInt, Int.bmod_add_bmod, Int.bmod_sub_bmod, Int.add_bmod_bmod, Int.sub_bmod_bmod, Int.bmod_mul_bmod, Int.mul_bmod_bmod]; exact i32_bm (by omega) (by omega)) (by omega) (by omega) | exact i32_in (by decide) (by decide)) (by (try simp (disch := omega) only [oS_k, oS_o, oS_a, oS_f, oS_n, aS_k, aS_o, aS_a, aS_f, aS_n, fS_k, fS_o, fS_a, fS_f, fS_n, nO_k, nO_o, nO_a, nA_k, nA_o, nA_a, nA_f, nA_n, nF_k, nF_o, nF_a, nF_f, nF_n, Nat.reduceEqDiff, ↓reduceIte, and_true, true_and, and_false, false_and, reduceCtorEq, xl_0, xl_1, xl_2, nI_add, nI_1, nm_2, nm_3, nm_4, nm_6, nm_7, nm_8, nm_12, nm_16, na_0, na_2, na_3, na_4, na_5, na_6, na_7, na_8, nm_p, nm_m, nI_clamp]); first | exact h.sc.o (by decide) rfl | exact h.sc.ob1 (by omega) | exact h.sc.ob2 (by omega) | exact h.sc.ob3 (by omega) | exact h.sc.ot (by omega) | exact h.sc.fb (by omega) | exact h.sc.ft (by omega) (by omega) | exact h.sc.fs (by omega) | exact h.p.1 | exact h.p.2.2.2.2.1 | exact h.p.2.2.2.2.2.1 | exact h.p.2.2.2.2.2.2.1 | exact h.p.2.2.2.2.2.2.2.1 | exact h.p.2.2.2.2.2.2.2.2.1 | exact rfl) dX0_tally_9 ?_
  refine x_iconst (v := 0) hκ dX0_tally_10 (by decide) ?_
  refine x_istore hκ dX0_tally_11 (by rw [hL]; decide) rfl ?_
  refine loop 12 0 _ rfl ?_
  have := h.know hk (σ.2 57 k + b)
  rw [lrnW]
  have e := tF_self (tA σ 57 k (σ.2 57 k + b)) 58
  rw [show (tA σ 57 k (σ.2 57 k + b)).2 58 = σ.2 58 from rfl] at e
  rw [e]
  exact this
theorem CWc.learnt {E : gE} {L : Nat → Nat} {γ : Gh} {σ : TS} {c : Int32} {s : CSt} (h : CWc E L γ σ c s) {t i : Nat} (ht : t < 12) (hi : i < vT γ t) (v : Int32) : CWc E L γ (tA σ 43 (300 * t + i) v) c (oS s (vC γ t i) 2 (.int v)) := by
  have hf : Fr [43] σ (tA σ 43 (300 * t + i) v) := (Fr.rf _ _).A rfl _ _
  have hk : Kp (fun b => b = vC γ t i) s (oS s (vC γ t i) 2 (.int v)) := Kp.oS rfl
  have h16 := (h.cp ht hi).1
  have nL : ∀ {r : Nat}, r < 51 → ¬ L r = vC γ t i := fun hr z => h.nC ht hi hr z.symm
  have nA : ∀ {j : Nat}, j < 13 → vA γ j = E.2 20 ∨ ¬ vA γ j = vC γ t i := fun hj => (h.k44 hj).imp id (fun z q => by rw [q] at z; omega)
  refine ⟨h.sc.kp hk (fun r hr => nL hr), (h.p.kp h.sc hk (nL (by decide)) (nL (by decide))).fr hf rfl, (h.l.kp hk (nL (by decide)) (nA (by decide)) (fun k hk2 q => by have := (h.lt hk2).1; rw [q] at this; omega)).fr hf rfl, (h.b.kp h.sc hk (fun b hb => ⟨nL (by omega), nL (by omega), nL (by omega)⟩)).fr hf rfl, fun u hu => ?_, (h.kn.kp h.sc hk (nL (by decide)) (nL (by decide))).fr hf rfl, (h.sh.kp h.sc hk (fun j hj => ⟨nL (by omega), fun hs q => ?_⟩)).fr hf rfl, h.r.kp hk (fun b hb z => h.x.2.2.1 t i ht hi (by rw [← z]; exact hb)), h.x⟩
  · obtain ⟨g1, g2, g3, g4, g5⟩ := h.t u hu
    have gt := (h.t t ht).2.2.1
    refine ⟨((hk (L (11 + u)) (h.sc.z (by omega)) (nL (by omega))).2.1 1).trans g1, g2, g3, g4.kp hk (nL (by omega)) (nA (by omega)), fun j hj => ?_⟩
    by_cases e : u = t ∧ j = i
    · obtain ⟨rfl, rfl⟩ := e
      obtain ⟨p1, l, p2, p3, p4, p5, p6⟩ := h.cp hu hj
      refine ⟨p1, l, p2, p3, by rw [oS_o, if_neg (by omega)]; exact p4, by rw [oS_o, if_neg (by omega)]; exact p5, ?_⟩
      rw [oS_o, if_pos ⟨rfl, rfl⟩, tA_2, if_pos rfl, upd, if_pos rfl]
    · obtain ⟨p1, l, p2, p3, p4, p5, p6⟩ := (h.cp hu hj).kp hk (fun z => e (h.x.2.2.2.1 u j t i hu ht hj hi z))
      refine ⟨p1, l, p2, p3, p4, p5, ?_⟩
      rw [p6, tA_2, if_pos rfl, upd, if_neg (fun z => e ⟨by omega, by omega⟩)]
  · rcases h.sh.1 j hj with z | z
    · exact hs z.1
    · have := z.2.2.1
      rw [q, h16] at this
      split at this <;> omega
theorem oX0_learn {E : gE} {L : Nat → Nat} {γ : Gh} {σ : TS} {s : CSt} (h : CW E L γ σ s) {b t i z : Int32} {r2 : Int32} {σ2 : TS} (h2 : (r2, σ2) = if isCp σ b t i then (if σ.2 43 (ca b t i) = 0 then (if σ.2 57 (if z = 0 then 1 else 0) = 60 then (-3, σ) else (σ.2 57 (if z = 0 then 1 else 0) + 1, lrn (tA σ 43 (ca b t i) (if z = 0 then 2 else 1)) (Int32.toNatClampNeg (σ.2 41 (ca b t i))) (if z = 0 then 1 else 0) 1)) else (-2, σ)) else (-1, σ)) : CMg E s yX0_learn cX0_learn 7 (some .int) 5 0 0 [.ref (L 0), .int b, .int t, .int i, .int z] (cQ E L r2 σ2) := by
  refine CMg.of (by decide) (Nat.le_of_ble_eq_true rfl) ?_
  rintro κ rfl hL hκ hr
  refine x_aload_n hκ dX0_learn_0 rfl ?_
  refine x_iload_n hκ dX0_learn_1 rfl ?_
  refine x_iload_n hκ dX0_learn_2 rfl ?_
  refine x_iload_n hκ dX0_learn_3 rfl ?_
  refine c_callV  hκ (mX0_copyAt h) (by omega) (by decide) wX0_384 aX0_copyAt kX0 (by (try simp (disch := omega) only [oS_k, oS_o, oS_a, oS_f, oS_n, aS_k, aS_o, aS_a, aS_f, aS_n, fS_k, fS_o, fS_a, fS_f, fS_n, nO_k, nO_o, nO_a, nA_k, nA_o, nA_a, nA_f, nA_n, nF_k, nF_o, nF_a, nF_f, nF_n, Nat.reduceEqDiff, ↓reduceIte, and_true, true_and, and_false, false_and, reduceCtorEq, xl_0, xl_1, xl_2, nI_add, nI_1, nm_2, nm_3, nm_4, nm_6, nm_7, nm_8, nm_12, nm_16, na_0, na_2, na_3, na_4, na_5, na_6, na_7, na_8, nm_p, nm_m, nI_clamp]); first | done | assumption | exact h.sc.k (by decide) | exact h.sc.kb (by omega) | exact h.sc.kbt (by omega) | exact h.sc.kbh (by omega) | exact h.sc.kba (by omega) | exact h.sc.kt (by omega) | exact h.sc.ktl (by omega) | exact h.sc.ks (by omega) | rfl) rfl (Nat.le_of_ble_eq_true rfl) dX0_learn_4 (jOr (fun r4 h4 => ?_))
  rcases h4 with ⟨B, T, I, rfl, hB, rfl, hT, rfl, hI, hcp, rfl⟩ | ⟨hn, rfl⟩
  · have hTT : 4 * B + T < 12 := by omega
    have hvt := (h.t _ hTT).2.2.1
    obtain ⟨p1, l, p2, p3, p4, p5, p6⟩ := h.cp hTT hI
    have eca : ca (nI B) (nI T) (nI I) = 300 * (4 * B + T) + I := by show 300 * _ + _ = _; rw [cl_4bt hB hT, nI_clamp (by omega)]
    have hN := h.l.2.1
    rw [if_pos hcp, eca, p3, nI_clamp (by omega)] at h2
    show X κ (sG (kE κ) s) 0 0 _ _ [.ref (vC γ (4 * B + T) I)]
    have main : ∀ k : Nat, k < 2 → ((r2, σ2) = if σ.2 43 (300 * (4 * B + T) + I) = 0 then (if σ.2 57 k = 60 then (-3, σ) else (σ.2 57 k + 1, lrn (tA σ 43 (300 * (4 * B + T) + I) (nI (k + 1))) l k 1)) else (-2, σ)) → X κ (sG (kE κ) s) 0 0 28 [some (.ref (L 0)), some (.int (nI B)), some (.int (nI T)), some (.int (nI I)), some (.int z), some (.ref (vC γ (4 * B + T) I)), some (.int (nI k))] [] := by
      intro k hk h2
      refine x_aload hκ dX0_learn_28 rfl ?_
      refine c_get hκ kX17 (by exact p1) 2 (by decide) (Or.inr ⟨_, q897⟩) rfl (by exact p6) dX0_learn_30 ?_
      refine x_if_eq (tgt := 39) hκ dX0_learn_33 (by decide) (fun c33 => ?_) (fun c33 => ?_)
      · -- X0_learn 33T
        have i33 := c33
        simp (disch := omega) only [i32_lt, i32_le, i32_eq, Int32.reduceToInt, nI_toInt] at i33
        refine x_aload_n hκ dX0_learn_39 rfl ?_
        refine c_get hκ kX0 (by (try simp (disch := omega) only [oS_k, oS_o, oS_a, oS_f, oS_n, aS_k, aS_o, aS_a, aS_f, aS_n, fS_k, fS_o, fS_a, fS_f, fS_n, nO_k, nO_o, nO_a, nA_k, nA_o, nA_a, nA_f, nA_n, nF_k, nF_o, nF_a, nF_f, nF_n, Nat.reduceEqDiff, ↓reduceIte, and_true, true_and, and_false, false_and, reduceCtorEq, xl_0, xl_1, xl_2, nI_add, nI_1, nm_2, nm_3, nm_4, nm_6, nm_7, nm_8, nm_12, nm_16, na_0, na_2, na_3, na_4, na_5, na_6, na_7, na_8, nm_p, nm_m, nI_clamp]); first | done | assumption | exact h.sc.k (by decide) | exact h.sc.kb (by omega) | exact h.sc.kbt (by omega) | exact h.sc.kbh (by omega) | exact h.sc.kba (by omega) | exact h.sc.kt (by omega) | exact h.sc.ktl (by omega) | exact h.sc.ks (by omega) | rfl) 18 (by decide) (Or.inl q648) rfl (by (try simp (disch := omega) only [oS_k, oS_o, oS_a, oS_f, oS_n, aS_k, aS_o, aS_a, aS_f, aS_n, fS_k, fS_o, fS_a, fS_f, fS_n, nO_k, nO_o, nO_a, nA_k, nA_o, nA_a, nA_f, nA_n, nF_k, nF_o, nF_a, nF_f, nF_n, Nat.reduceEqDiff, ↓reduceIte, and_true, true_and, and_false, false_and, reduceCtorEq, xl_0, xl_1, xl_2, nI_add, nI_1, nm_2, nm_3, nm_4, nm_6, nm_7, nm_8, nm_12, nm_16, na_0, na_2, na_3, na_4, na_5, na_6, na_7, na_8, nm_p, nm_m, nI_clamp]); first | exact h.sc.o (by decide) rfl | exact h.sc.ob1 (by omega) | exact h.sc.ob2 (by omega) | exact h.sc.ob3 (by omega) | exact h.sc.ot (by omega) | exact h.sc.fb (by omega) | exact h.sc.ft (by omega) (by omega) | exact h.sc.fs (by omega) | exact h.p.1 | exact h.p.2.2.2.2.1 | exact h.p.2.2.2.2.2.1 | exact h.p.2.2.2.2.2.2.1 | exact h.p.2.2.2.2.2.2.2.1 | exact h.p.2.2.2.2.2.2.2.2.1 | exact rfl) dX0_learn_40 ?_
        refine x_iload hκ dX0_learn_43 rfl ?_
        refine c_iald hκ (by (try simp (disch := omega) only [oS_k, oS_o, oS_a, oS_f, oS_n, aS_k, aS_o, aS_a, aS_f, aS_n, fS_k, fS_o, fS_a, fS_f, fS_n, nO_k, nO_o, nO_a, nA_k, nA_o, nA_a, nA_f, nA_n, nF_k, nF_o, nF_a, nF_f, nF_n, Nat.reduceEqDiff, ↓reduceIte, and_true, true_and, and_false, false_and, reduceCtorEq, xl_0, xl_1, xl_2, nI_add, nI_1, nm_2, nm_3, nm_4, nm_6, nm_7, nm_8, nm_12, nm_16, na_0, na_2, na_3, na_4, na_5, na_6, na_7, na_8, nm_p, nm_m, nI_clamp]); first | done | assumption | exact h.sc.k (by decide) | exact h.sc.kb (by omega) | exact h.sc.kbt (by omega) | exact h.sc.kbh (by omega) | exact h.sc.kba (by omega) | exact h.sc.kt (by omega) | exact h.sc.ktl (by omega) | exact h.sc.ks (by omega) | rfl) (by (try simp (disch := omega) only [oS_k, oS_o, oS_a, oS_f, oS_n, aS_k, aS_o, aS_a, aS_f, aS_n, fS_k, fS_o, fS_a, fS_f, fS_n, nO_k, nO_o, nO_a, nA_k, nA_o, nA_a, nA_f, nA_n, nF_k, nF_o, nF_a, nF_f, nF_n, Nat.reduceEqDiff, ↓reduceIte, and_true, true_and, and_false, false_and, reduceCtorEq, xl_0, xl_1, xl_2, nI_add, nI_1, nm_2, nm_3, nm_4, nm_6, nm_7, nm_8, nm_12, nm_16, na_0, na_2, na_3, na_4, na_5, na_6, na_7, na_8, nm_p, nm_m, nI_clamp]); first | exact h.sc.n3 | exact h.sc.n4 | exact h.sc.nbt (by omega) | exact h.sc.nbh (by omega) | exact h.sc.nba (by omega) | exact h.sc.n41 | exact h.sc.n42 | exact h.sc.n43 | exact h.sc.n45 | exact h.sc.n46 | exact h.sc.n48 | exact rfl) (by first | ((with_reducible refine vp_in_nI ?_ ?_) <;> omega) | exact i32_in (by omega) (by omega) | exact i32_in' (by simp only [Int32.toInt_add, Int32.toInt_mul, Int32.toInt_sub, Int32.reduceToInt, Int.bmod_add_bmod, Int.bmod_sub_bmod, Int.add_bmod_bmod, Int.sub_bmod_bmod, Int.bmod_mul_bmod, Int.mul_bmod_bmod]; exact i32_bm (by omega) (by omega)) (by omega) (by omega) | exact i32_in (by decide) (by decide)) (by exact ((congrArg (s.2.2.1 (L 45)) (nI_clamp (by omega))).trans (h.kn.1 k hk))) dX0_learn_45 ?_
        refine x_bipush (v := 60) hκ dX0_learn_46 (by decide) ?_
        refine x_icmp_ne (tgt := 54) hκ dX0_learn_48 (by decide) (fun c48 => ?_) (fun c48 => ?_)
        · -- X0_learn 48T
          have i48 := c48
          simp (disch := omega) only [i32_lt, i32_le, i32_eq, Int32.reduceToInt, nI_toInt] at i48
          refine x_aload hκ dX0_learn_54 rfl ?_
          refine x_iload hκ dX0_learn_56 rfl ?_
          refine x_iconst (v := 1) hκ dX0_learn_58 (by decide) ?_
          refine x_iaddN hκ (by (try simp (disch := omega) only [oS_k, oS_o, oS_a, oS_f, oS_n, aS_k, aS_o, aS_a, aS_f, aS_n, fS_k, fS_o, fS_a, fS_f, fS_n, nO_k, nO_o, nO_a, nA_k, nA_o, nA_a, nA_f, nA_n, nF_k, nF_o, nF_a, nF_f, nF_n, Nat.reduceEqDiff, ↓reduceIte, and_true, true_and, and_false, false_and, reduceCtorEq, xl_0, xl_1, xl_2, nI_add, nI_1, nm_2, nm_3, nm_4, nm_6, nm_7, nm_8, nm_12, nm_16, na_0, na_2, na_3, na_4, na_5, na_6, na_7, na_8, nm_p, nm_m, nI_clamp]); first | exact h.sc.o (by decide) rfl | exact h.sc.ob1 (by omega) | exact h.sc.ob2 (by omega) | exact h.sc.ob3 (by omega) | exact h.sc.ot (by omega) | exact h.sc.fb (by omega) | exact h.sc.ft (by omega) (by omega) | exact h.sc.fs (by omega) | exact h.p.1 | exact h.p.2.2.2.2.1 | exact h.p.2.2.2.2.2.1 | exact h.p.2.2.2.2.2.2.1 | exact h.p.2.2.2.2.2.2.2.1 | exact h.p.2.2.2.2.2.2.2.2.1 | exact rfl) dX0_learn_59 ?_
          have hl := h.learnt hTT hI (nI (k + 1))
          refine c_put hκ kX17 (by exact p1) 2 (by decide) (Or.inr ⟨_, q897⟩) rfl rfl (by rfl) (by rfl) dX0_learn_60 ?_
          refine x_aload_n hκ dX0_learn_63 rfl ?_
          refine x_aload hκ dX0_learn_64 rfl ?_
          refine c_get hκ kX17 (by exact p1) 0 (by decide) (Or.inr ⟨_, q894⟩) rfl (by exact ((oS_o.trans (if_neg (by omega))).trans p4)) dX0_learn_66 ?_
          refine x_iload hκ dX0_learn_69 rfl ?_
          refine x_iconst (v := 1) hκ dX0_learn_71 (by decide) ?_
          refine c_callV  hκ (mX0_tally hl p2 hk) (by omega) (by decide) wX0_413 aX0_tally kX0 (by exact (h.sc.k (r := 0) (by decide))) rfl (Nat.le_of_ble_eq_true rfl) dX0_learn_72 (jI (fun r72 s72 h72 => ?_))
          refine c_reti hκ hr dX0_learn_75 ?_
          rw [if_pos c33, if_neg c48] at h2
          obtain ⟨rfl, rfl⟩ := Prod.mk.inj h2
          exact ⟨h72.1, γ, h72.2⟩
        · -- X0_learn 48F
          have i48 := c48
          simp (disch := omega) only [i32_lt, i32_le, i32_eq, Int32.reduceToInt, nI_toInt] at i48
          refine x_bipush (v := (-3)) hκ dX0_learn_51 (by decide) ?_
          refine c_reti hκ hr dX0_learn_53 ?_
          rw [if_pos c33, if_pos c48] at h2
          obtain ⟨rfl, rfl⟩ := Prod.mk.inj h2
          exact ⟨rfl, γ, h⟩
      · -- X0_learn 33F
        have i33 := c33
        simp (disch := omega) only [i32_lt, i32_le, i32_eq, Int32.reduceToInt, nI_toInt] at i33
        refine x_bipush (v := (-2)) hκ dX0_learn_36 (by decide) ?_
        refine c_reti hκ hr dX0_learn_38 ?_
        rw [if_neg c33] at h2
        obtain ⟨rfl, rfl⟩ := Prod.mk.inj h2
        exact ⟨rfl, γ, h⟩
    refine x_astore hκ dX0_learn_7 (by rw [hL]; decide) rfl ?_
    refine x_aload hκ dX0_learn_9 rfl ?_
    refine x_ifnonnull (tgt := 16) hκ dX0_learn_11 (by decide) ?_
    refine x_iload hκ dX0_learn_16 rfl ?_
    refine x_if_eq (tgt := 25) hκ dX0_learn_18 (by decide) (fun c18 => ?_) (fun c18 => ?_)
    · -- X0_learn 18T
      have i18 := c18
      simp (disch := omega) only [i32_lt, i32_le, i32_eq, Int32.reduceToInt, nI_toInt] at i18
      refine x_iconst (v := 1) hκ dX0_learn_25 (by decide) ?_
      refine x_istore hκ dX0_learn_26 (by rw [hL]; decide) rfl ?_
      exact main 1 (by omega) (by rw [if_pos c18] at h2; rw [if_pos c18] at h2; exact h2)
    · -- X0_learn 18F
      have i18 := c18
      simp (disch := omega) only [i32_lt, i32_le, i32_eq, Int32.reduceToInt, nI_toInt] at i18
      refine x_iconst (v := 0) hκ dX0_learn_21 (by decide) ?_
      refine x_goto (tgt := 26) hκ dX0_learn_22 (by decide) ?_
      refine x_istore hκ dX0_learn_26 (by rw [hL]; decide) rfl ?_
      exact main 0 (by omega) (by rw [if_neg c18] at h2; rw [if_neg c18] at h2; exact h2)
  · show X κ (sG (kE κ) s) 0 0 _ _ [.null]
    rw [if_neg hn] at h2
    obtain ⟨rfl, rfl⟩ := Prod.mk.inj h2
    refine x_astoreN hκ dX0_learn_7 (by rw [hL]; decide) rfl ?_
    refine x_aloadN hκ dX0_learn_9 rfl ?_
    refine x_ifnonnullN hκ dX0_learn_11 ?_
    refine x_iconst (v := (-1)) hκ dX0_learn_14 (by decide) ?_
    refine c_reti hκ hr dX0_learn_15 ?_
    exact ⟨rfl, γ, h⟩
theorem oX0_unlearn {E : gE} {L : Nat → Nat} {γ : Gh} {σ : TS} {s : CSt} (h : CW E L γ σ s) (hN : ∀ t : Nat, t < 12 → ∀ i : Nat, (i : Int) < (σ.2 40 t).toInt → 0 ≤ (σ.2 43 (300 * t + i)).toInt ∧ (σ.2 43 (300 * t + i)).toInt ≤ 2) {b t i : Int32} {r2 : Int32} {σ2 : TS} (h2 : (r2, σ2) = if isCp σ b t i then (if σ.2 43 (ca b t i) = 0 then (-2, σ) else (σ.2 57 (Int32.toNatClampNeg (σ.2 43 (ca b t i) - 1)) + (-1), lrn (tA σ 43 (ca b t i) 0) (Int32.toNatClampNeg (σ.2 41 (ca b t i))) (Int32.toNatClampNeg (σ.2 43 (ca b t i) - 1)) (-1))) else (-1, σ)) : CMg E s yX0_unlearn cX0_unlearn 6 (some .int) 5 0 0 [.ref (L 0), .int b, .int t, .int i] (cQ E L r2 σ2) := by
  refine CMg.of (by decide) (Nat.le_of_ble_eq_true rfl) ?_
  rintro κ rfl hL hκ hr
  refine x_aload_n hκ dX0_unlearn_0 rfl ?_
  refine x_iload_n hκ dX0_unlearn_1 rfl ?_
  refine x_iload_n hκ dX0_unlearn_2 rfl ?_
  refine x_iload_n hκ dX0_unlearn_3 rfl ?_
  refine c_callV  hκ (mX0_copyAt h) (by omega) (by decide) wX0_384 aX0_copyAt kX0 (by (try simp (disch := omega) only [oS_k, oS_o, oS_a, oS_f, oS_n, aS_k, aS_o, aS_a, aS_f, aS_n, fS_k, fS_o, fS_a, fS_f, fS_n, nO_k, nO_o, nO_a, nA_k, nA_o, nA_a, nA_f, nA_n, nF_k, nF_o, nF_a, nF_f, nF_n, Nat.reduceEqDiff, ↓reduceIte, and_true, true_and, and_false, false_and, reduceCtorEq, xl_0, xl_1, xl_2, nI_add, nI_1, nm_2, nm_3, nm_4, nm_6, nm_7, nm_8, nm_12, nm_16, na_0, na_2, na_3, na_4, na_5, na_6, na_7, na_8, nm_p, nm_m, nI_clamp]); first | done | assumption | exact h.sc.k (by decide) | exact h.sc.kb (by omega) | exact h.sc.kbt (by omega) | exact h.sc.kbh (by omega) | exact h.sc.kba (by omega) | exact h.sc.kt (by omega) | exact h.sc.ktl (by omega) | exact h.sc.ks (by omega) | rfl) rfl (Nat.le_of_ble_eq_true rfl) dX0_unlearn_4 (jOr (fun r4 h4 => ?_))
  rcases h4 with ⟨B, T, I, rfl, hB, rfl, hT, rfl, hI, hcp, rfl⟩ | ⟨hn, rfl⟩
  · have hTT : 4 * B + T < 12 := by omega
    have hvt := (h.t _ hTT).2.2.1
    obtain ⟨p1, l, p2, p3, p4, p5, p6⟩ := h.cp hTT hI
    have eca : ca (nI B) (nI T) (nI I) = 300 * (4 * B + T) + I := by show 300 * _ + _ = _; rw [cl_4bt hB hT, nI_clamp (by omega)]
    have hN1 := h.l.2.1
    have h43 := hN _ hTT I (by rw [(h.t _ hTT).2.1, nI_toInt (by omega)]; omega)
    rw [if_pos hcp, eca, p3, nI_clamp (by omega)] at h2
    show X κ (sG (kE κ) s) 0 0 _ _ [.ref (vC γ (4 * B + T) I)]
    obtain ⟨K, hK, eK, -⟩ := i32_nat h43
    rw [eK] at h2 p6
    refine x_astore hκ dX0_unlearn_7 (by rw [hL]; decide) rfl ?_
    refine x_aload hκ dX0_unlearn_9 rfl ?_
    refine x_ifnonnull (tgt := 16) hκ dX0_unlearn_11 (by decide) ?_
    refine x_aload hκ dX0_unlearn_16 rfl ?_
    refine c_get hκ kX17 (by exact p1) 2 (by decide) (Or.inr ⟨_, q897⟩) rfl (by exact p6) dX0_unlearn_18 ?_
    refine x_if_ne (tgt := 27) hκ dX0_unlearn_21 (by decide) (fun c21 => ?_) (fun c21 => ?_)
    · -- X0_unlearn 21T
      have i21 := c21
      simp (disch := omega) only [i32_lt, i32_le, i32_eq, Int32.reduceToInt, nI_toInt] at i21
      have hK1 : 1 ≤ K := by rcases Nat.eq_zero_or_pos K with z | z; exact absurd (by rw [z]; rfl) c21; exact z
      rw [if_neg c21, nm_p hK1, nI_clamp (by omega)] at h2
      refine x_aload hκ dX0_unlearn_27 rfl ?_
      refine c_get hκ kX17 (by exact p1) 2 (by decide) (Or.inr ⟨_, q897⟩) rfl (by exact p6) dX0_unlearn_29 ?_
      refine x_iconst (v := 1) hκ dX0_unlearn_32 (by decide) ?_
      refine x_isubN hκ (by (try simp (disch := omega) only [oS_k, oS_o, oS_a, oS_f, oS_n, aS_k, aS_o, aS_a, aS_f, aS_n, fS_k, fS_o, fS_a, fS_f, fS_n, nO_k, nO_o, nO_a, nA_k, nA_o, nA_a, nA_f, nA_n, nF_k, nF_o, nF_a, nF_f, nF_n, Nat.reduceEqDiff, ↓reduceIte, and_true, true_and, and_false, false_and, reduceCtorEq, xl_0, xl_1, xl_2, nI_add, nI_1, nm_2, nm_3, nm_4, nm_6, nm_7, nm_8, nm_12, nm_16, na_0, na_2, na_3, na_4, na_5, na_6, na_7, na_8, nm_p, nm_m, nI_clamp]); first | exact h.sc.o (by decide) rfl | exact h.sc.ob1 (by omega) | exact h.sc.ob2 (by omega) | exact h.sc.ob3 (by omega) | exact h.sc.ot (by omega) | exact h.sc.fb (by omega) | exact h.sc.ft (by omega) (by omega) | exact h.sc.fs (by omega) | exact h.p.1 | exact h.p.2.2.2.2.1 | exact h.p.2.2.2.2.2.1 | exact h.p.2.2.2.2.2.2.1 | exact h.p.2.2.2.2.2.2.2.1 | exact h.p.2.2.2.2.2.2.2.2.1 | exact rfl) dX0_unlearn_33 ?_
      refine x_istore hκ dX0_unlearn_34 (by rw [hL]; decide) rfl ?_
      refine x_aload hκ dX0_unlearn_36 rfl ?_
      refine x_iconst (v := 0) hκ dX0_unlearn_38 (by decide) ?_
      have hl := h.learnt hTT hI 0
      refine c_put hκ kX17 (by exact p1) 2 (by decide) (Or.inr ⟨_, q897⟩) rfl rfl (by rfl) (by rfl) dX0_unlearn_39 ?_
      refine x_aload_n hκ dX0_unlearn_42 rfl ?_
      refine x_aload hκ dX0_unlearn_43 rfl ?_
      refine c_get hκ kX17 (by exact p1) 0 (by decide) (Or.inr ⟨_, q894⟩) rfl (by exact ((oS_o.trans (if_neg (by omega))).trans p4)) dX0_unlearn_45 ?_
      refine x_iload hκ dX0_unlearn_48 rfl ?_
      refine x_iconst (v := (-1)) hκ dX0_unlearn_50 (by decide) ?_
      refine c_callV  hκ (mX0_tally hl p2 (show K - 1 < 2 by omega)) (by omega) (by decide) wX0_413 aX0_tally kX0 (by exact (h.sc.k (r := 0) (by decide))) rfl (Nat.le_of_ble_eq_true rfl) dX0_unlearn_51 (jI (fun r51 s51 h51 => ?_))
      refine c_reti hκ hr dX0_unlearn_54 ?_
      obtain ⟨rfl, rfl⟩ := Prod.mk.inj h2
      exact ⟨h51.1, γ, h51.2⟩
    · -- X0_unlearn 21F
      have i21 := c21
      simp (disch := omega) only [i32_lt, i32_le, i32_eq, Int32.reduceToInt, nI_toInt] at i21
      refine x_bipush (v := (-2)) hκ dX0_unlearn_24 (by decide) ?_
      refine c_reti hκ hr dX0_unlearn_26 ?_
      rw [if_pos c21] at h2
      obtain ⟨rfl, rfl⟩ := Prod.mk.inj h2
      exact ⟨rfl, γ, h⟩
  · show X κ (sG (kE κ) s) 0 0 _ _ [.null]
    rw [if_neg hn] at h2
    obtain ⟨rfl, rfl⟩ := Prod.mk.inj h2
    refine x_astoreN hκ dX0_unlearn_7 (by rw [hL]; decide) rfl ?_
    refine x_aloadN hκ dX0_unlearn_9 rfl ?_
    refine x_ifnonnullN hκ dX0_unlearn_11 ?_
    refine x_iconst (v := (-1)) hκ dX0_unlearn_14 (by decide) ?_
    refine c_reti hκ hr dX0_unlearn_15 ?_
    exact ⟨rfl, γ, h⟩
