
/-! the component: a letter is filed -/
/-- trays looked at: which are full -/
theorem fil_1 {κ : Kx} {d u w : Nat} (hκ : Ok κ cX0_file RX0 d) (hL : kL κ = 5) (hd : 4 ≤ d) {L : Nat → Nat} {γ : Gh} {σ : TS} {c : Int32} {b : Nat} (hb : b < 3) {τ : TS} {f : Nat → Value} (f2 : f 2 = .ref (L (5 + b))) (f4 : f 4 = .int (σ.1 49))
    (J : ∀ s' : CSt, CWc (kE κ) L γ (tS σ 39 (σ.1 39 + ncr σ b 4)) c s' → Qu L γ τ s' → (∀ k, s'.2.1 (L 44) k = f k) → ∀ o4 : Option Value, X κ (sG (kE κ) s') u w 79 [some (.ref (L 0)), some (.ref (L 44)), some (.int (bts σ b 4)), some (.int (nI 4)), o4] []) :
    ∀ (m t : Nat) (s : CSt) (o4 : Option Value), loOk [some (.ref (L 0)), some (.ref (L 44)), some (.int (bts σ b t)), some (.int (nI t)), o4] 4 = true → 1 ≤ t → t + m = 4 → CWc (kE κ) L γ (tS σ 39 (σ.1 39 + ncr σ b t)) c s → Qu L γ τ s → (∀ k, s.2.1 (L 44) k = f k) → X κ (sG (kE κ) s) u w 7 [some (.ref (L 0)), some (.ref (L 44)), some (.int (bts σ b t)), some (.int (nI t)), o4] [] := by
  intro m
  induction m with
  | zero =>
    intro t s o4 lo4 h1 hm h hq ha
    obtain rfl : t = 4 := by omega
    refine x_iload_n hκ dX0_file_7 rfl ?_
    refine x_iconst (v := 4) hκ dX0_file_8 (by decide) ?_
    refine x_icmp_ge (tgt := 79) hκ dX0_file_9 (by decide) (fun c9 => ?_) (fun c9 => ?_)
    · -- X0_file 9T
      have i9 := c9
      simp (disch := omega) only [i32_lt, i32_le, i32_eq, Int32.reduceToInt, nI_toInt] at i9
      exact J s h hq ha o4
    · -- X0_file 9F
      have i9 := c9
      simp (disch := omega) only [i32_lt, i32_le, i32_eq, Int32.reduceToInt, nI_toInt] at i9
      exact absurd (by decide) c9
  | succ m ih =>
    intro t s o4 lo4 h1 hm h hq ha
    have ht4 : t < 4 := by omega
    have hTT : 4 * b + t < 12 := by omega
    obtain ⟨t1, t2, t3, t4, t5⟩ := h.t (4 * b + t) hTT
    have t1 : s.2.1 (L (11 + (4 * b + t))) 1 = .int (σ.2 7 (4 * b + t)) := t1
    have t2 : σ.2 40 (4 * b + t) = nI (vT γ (4 * b + t)) := t2
    have e16 : s.2.1 (L 0) 16 = .int (σ.1 39 + ncr σ b t) := h.p.2.2.2.2.2.2.2.2.1
    have hbit := bit_1 (x := σ.1 49) (p := t) (by omega)
    have same : ¬ (1 ≤ t ∧ bt (σ.1 49) t = true ∧ noneP σ b t) → ∀ o4, loOk [some (.ref (L 0)), some (.ref (L 44)), some (.int (bts σ b t)), some (.int (nI (t + 1))), o4] 4 = true → X κ (sG (kE κ) s) u w 7 [some (.ref (L 0)), some (.ref (L 44)), some (.int (bts σ b t)), some (.int (nI (t + 1))), o4] [] := fun hc o4 lo => by
      have q := ih (t + 1) s o4 (by rw [bts, if_neg hc]; exact lo) (by omega) (by omega) (by rw [ncr, if_neg hc, Int32.add_zero]; exact h) hq ha
      rw [bts, if_neg hc] at q
      exact q
    refine x_iload_n hκ dX0_file_7 rfl ?_
    refine x_iconst (v := 4) hκ dX0_file_8 (by decide) ?_
    refine x_icmp_ge (tgt := 79) hκ dX0_file_9 (by decide) (fun c9 => ?_) (fun c9 => ?_)
    · -- X0_file 9T
      have i9 := c9
      simp (disch := omega) only [i32_lt, i32_le, i32_eq, Int32.reduceToInt, nI_toInt] at i9
      omega
    · -- X0_file 9F
      have i9 := c9
      simp (disch := omega) only [i32_lt, i32_le, i32_eq, Int32.reduceToInt, nI_toInt] at i9
      refine x_aload_n hκ dX0_file_12 rfl ?_
      refine c_get hκ kX5 (by (try simp (disch := omega) only [oS_k, oS_o, oS_a, oS_f, oS_n, aS_k, aS_o, aS_a, aS_f, aS_n, fS_k, fS_o, fS_a, fS_f, fS_n, nO_k, nO_o, nO_a, nA_k, nA_o, nA_a, nA_f, nA_n, nF_k, nF_o, nF_a, nF_f, nF_n, Nat.reduceEqDiff, ↓reduceIte, and_true, true_and, and_false, false_and, reduceCtorEq, xl_0, xl_1, xl_2, nI_add, nI_1, nm_2, nm_3, nm_4, nm_6, nm_7, nm_8, nm_12, nm_16, na_0, na_2, na_3, na_4, na_5, na_6, na_7, na_8, nm_p, nm_m, nI_clamp]); first | done | assumption | exact h.sc.k (by decide) | exact h.sc.kb (by omega) | exact h.sc.kbt (by omega) | exact h.sc.kbh (by omega) | exact h.sc.kba (by omega) | exact h.sc.kt (by omega) | exact h.sc.ktl (by omega) | exact h.sc.ks (by omega) | rfl) 2 (by decide) (Or.inr ⟨_, q571⟩) rfl (by exact ((ha 2).trans f2)) dX0_file_13 ?_
      refine c_get hκ kX2 (by (try simp (disch := omega) only [oS_k, oS_o, oS_a, oS_f, oS_n, aS_k, aS_o, aS_a, aS_f, aS_n, fS_k, fS_o, fS_a, fS_f, fS_n, nO_k, nO_o, nO_a, nA_k, nA_o, nA_a, nA_f, nA_n, nF_k, nF_o, nF_a, nF_f, nF_n, Nat.reduceEqDiff, ↓reduceIte, and_true, true_and, and_false, false_and, reduceCtorEq, xl_0, xl_1, xl_2, nI_add, nI_1, nm_2, nm_3, nm_4, nm_6, nm_7, nm_8, nm_12, nm_16, na_0, na_2, na_3, na_4, na_5, na_6, na_7, na_8, nm_p, nm_m, nI_clamp]); first | done | assumption | exact h.sc.k (by decide) | exact h.sc.kb (by omega) | exact h.sc.kbt (by omega) | exact h.sc.kbh (by omega) | exact h.sc.kba (by omega) | exact h.sc.kt (by omega) | exact h.sc.ktl (by omega) | exact h.sc.ks (by omega) | rfl) 1 (by decide) (Or.inr ⟨_, q534⟩) rfl (by (try simp (disch := omega) only [oS_k, oS_o, oS_a, oS_f, oS_n, aS_k, aS_o, aS_a, aS_f, aS_n, fS_k, fS_o, fS_a, fS_f, fS_n, nO_k, nO_o, nO_a, nA_k, nA_o, nA_a, nA_f, nA_n, nF_k, nF_o, nF_a, nF_f, nF_n, Nat.reduceEqDiff, ↓reduceIte, and_true, true_and, and_false, false_and, reduceCtorEq, xl_0, xl_1, xl_2, nI_add, nI_1, nm_2, nm_3, nm_4, nm_6, nm_7, nm_8, nm_12, nm_16, na_0, na_2, na_3, na_4, na_5, na_6, na_7, na_8, nm_p, nm_m, nI_clamp]); first | exact h.sc.o (by decide) rfl | exact h.sc.ob1 (by omega) | exact h.sc.ob2 (by omega) | exact h.sc.ob3 (by omega) | exact h.sc.ot (by omega) | exact h.sc.fb (by omega) | exact h.sc.ft (by omega) (by omega) | exact h.sc.fs (by omega) | exact h.p.1 | exact h.p.2.2.2.2.1 | exact h.p.2.2.2.2.2.1 | exact h.p.2.2.2.2.2.2.1 | exact h.p.2.2.2.2.2.2.2.1 | exact h.p.2.2.2.2.2.2.2.2.1 | exact rfl) dX0_file_16 ?_
      refine x_iload_n hκ dX0_file_19 rfl ?_
      refine c_aald (t := 7) hκ (by (try simp (disch := omega) only [oS_k, oS_o, oS_a, oS_f, oS_n, aS_k, aS_o, aS_a, aS_f, aS_n, fS_k, fS_o, fS_a, fS_f, fS_n, nO_k, nO_o, nO_a, nA_k, nA_o, nA_a, nA_f, nA_n, nF_k, nF_o, nF_a, nF_f, nF_n, Nat.reduceEqDiff, ↓reduceIte, and_true, true_and, and_false, false_and, reduceCtorEq, xl_0, xl_1, xl_2, nI_add, nI_1, nm_2, nm_3, nm_4, nm_6, nm_7, nm_8, nm_12, nm_16, na_0, na_2, na_3, na_4, na_5, na_6, na_7, na_8, nm_p, nm_m, nI_clamp]); first | done | assumption | exact h.sc.k (by decide) | exact h.sc.kb (by omega) | exact h.sc.kbt (by omega) | exact h.sc.kbh (by omega) | exact h.sc.kba (by omega) | exact h.sc.kt (by omega) | exact h.sc.ktl (by omega) | exact h.sc.ks (by omega) | rfl) (by decide) (by decide) (by (try simp (disch := omega) only [oS_k, oS_o, oS_a, oS_f, oS_n, aS_k, aS_o, aS_a, aS_f, aS_n, fS_k, fS_o, fS_a, fS_f, fS_n, nO_k, nO_o, nO_a, nA_k, nA_o, nA_a, nA_f, nA_n, nF_k, nF_o, nF_a, nF_f, nF_n, Nat.reduceEqDiff, ↓reduceIte, and_true, true_and, and_false, false_and, reduceCtorEq, xl_0, xl_1, xl_2, nI_add, nI_1, nm_2, nm_3, nm_4, nm_6, nm_7, nm_8, nm_12, nm_16, na_0, na_2, na_3, na_4, na_5, na_6, na_7, na_8, nm_p, nm_m, nI_clamp]); first | exact h.sc.n3 | exact h.sc.n4 | exact h.sc.nbt (by omega) | exact h.sc.nbh (by omega) | exact h.sc.nba (by omega) | exact h.sc.n41 | exact h.sc.n42 | exact h.sc.n43 | exact h.sc.n45 | exact h.sc.n46 | exact h.sc.n48 | exact rfl) (by first | ((with_reducible refine vp_in_nI ?_ ?_) <;> omega) | exact i32_in (by omega) (by omega) | exact i32_in' (by simp only [Int32.toInt_add, Int32.toInt_mul, Int32.toInt_sub, Int32.reduceToInt, Int.bmod_add_bmod, Int.bmod_sub_bmod, Int.add_bmod_bmod, Int.sub_bmod_bmod, Int.bmod_mul_bmod, Int.mul_bmod_bmod]; exact i32_bm (by omega) (by omega)) (by omega) (by omega) | exact i32_in (by decide) (by decide)) (by (try simp (disch := omega) only [oS_k, oS_o, oS_a, oS_f, oS_n, aS_k, aS_o, aS_a, aS_f, aS_n, fS_k, fS_o, fS_a, fS_f, fS_n, nO_k, nO_o, nO_a, nA_k, nA_o, nA_a, nA_f, nA_n, nF_k, nF_o, nF_a, nF_f, nF_n, Nat.reduceEqDiff, ↓reduceIte, and_true, true_and, and_false, false_and, reduceCtorEq, xl_0, xl_1, xl_2, nI_add, nI_1, nm_2, nm_3, nm_4, nm_6, nm_7, nm_8, nm_12, nm_16, na_0, na_2, na_3, na_4, na_5, na_6, na_7, na_8, nm_p, nm_m, nI_clamp]); first | exact h.sc.o (by decide) rfl | exact h.sc.ob1 (by omega) | exact h.sc.ob2 (by omega) | exact h.sc.ob3 (by omega) | exact h.sc.ot (by omega) | exact h.sc.fb (by omega) | exact h.sc.ft (by omega) (by omega) | exact h.sc.fs (by omega) | exact h.p.1 | exact h.p.2.2.2.2.1 | exact h.p.2.2.2.2.2.1 | exact h.p.2.2.2.2.2.2.1 | exact h.p.2.2.2.2.2.2.2.1 | exact h.p.2.2.2.2.2.2.2.2.1 | exact rfl) dX0_file_20 ?_
      refine x_astore hκ dX0_file_21 (by rw [hL]; decide) rfl ?_
      refine x_aload_n hκ dX0_file_23 rfl ?_
      refine c_get hκ kX5 (by (try simp (disch := omega) only [oS_k, oS_o, oS_a, oS_f, oS_n, aS_k, aS_o, aS_a, aS_f, aS_n, fS_k, fS_o, fS_a, fS_f, fS_n, nO_k, nO_o, nO_a, nA_k, nA_o, nA_a, nA_f, nA_n, nF_k, nF_o, nF_a, nF_f, nF_n, Nat.reduceEqDiff, ↓reduceIte, and_true, true_and, and_false, false_and, reduceCtorEq, xl_0, xl_1, xl_2, nI_add, nI_1, nm_2, nm_3, nm_4, nm_6, nm_7, nm_8, nm_12, nm_16, na_0, na_2, na_3, na_4, na_5, na_6, na_7, na_8, nm_p, nm_m, nI_clamp]); first | done | assumption | exact h.sc.k (by decide) | exact h.sc.kb (by omega) | exact h.sc.kbt (by omega) | exact h.sc.kbh (by omega) | exact h.sc.kba (by omega) | exact h.sc.kt (by omega) | exact h.sc.ktl (by omega) | exact h.sc.ks (by omega) | rfl) 4 (by decide) (Or.inr ⟨_, q574⟩) rfl (by exact ((ha 4).trans f4)) dX0_file_24 ?_
      refine x_iload_n hκ dX0_file_27 rfl ?_
      refine x_ishr hκ dX0_file_28 ?_
      refine x_iconst (v := 1) hκ dX0_file_29 (by decide) ?_
      refine x_iand hκ dX0_file_30 ?_
      refine x_iconst (v := 1) hκ dX0_file_31 (by decide) ?_
      refine x_icmp_ne (tgt := 73) hκ dX0_file_32 (by decide) (fun c32 => ?_) (fun c32 => ?_)
      · -- X0_file 32T
        have i32 := c32
        simp (disch := omega) only [i32_lt, i32_le, i32_eq, Int32.reduceToInt, nI_toInt] at i32
        refine x_iincN (y := 1) hκ dX0_file_73 (by decide) rfl (by rw [hL]; decide) rfl (by (try simp (disch := omega) only [oS_k, oS_o, oS_a, oS_f, oS_n, aS_k, aS_o, aS_a, aS_f, aS_n, fS_k, fS_o, fS_a, fS_f, fS_n, nO_k, nO_o, nO_a, nA_k, nA_o, nA_a, nA_f, nA_n, nF_k, nF_o, nF_a, nF_f, nF_n, Nat.reduceEqDiff, ↓reduceIte, and_true, true_and, and_false, false_and, reduceCtorEq, xl_0, xl_1, xl_2, nI_add, nI_1, nm_2, nm_3, nm_4, nm_6, nm_7, nm_8, nm_12, nm_16, na_0, na_2, na_3, na_4, na_5, na_6, na_7, na_8, nm_p, nm_m, nI_clamp]); first | exact h.sc.o (by decide) rfl | exact h.sc.ob1 (by omega) | exact h.sc.ob2 (by omega) | exact h.sc.ob3 (by omega) | exact h.sc.ot (by omega) | exact h.sc.fb (by omega) | exact h.sc.ft (by omega) (by omega) | exact h.sc.fs (by omega) | exact h.p.1 | exact h.p.2.2.2.2.1 | exact h.p.2.2.2.2.2.1 | exact h.p.2.2.2.2.2.2.1 | exact h.p.2.2.2.2.2.2.2.1 | exact h.p.2.2.2.2.2.2.2.2.1 | exact rfl) ?_
        refine x_goto (tgt := 7) hκ dX0_file_76 (by decide) ?_
        exact same (fun z => c32 (hbit.mpr z.2.1)) _ rfl
      · -- X0_file 32F
        have i32 := c32
        simp (disch := omega) only [i32_lt, i32_le, i32_eq, Int32.reduceToInt, nI_toInt] at i32
        refine x_aload hκ dX0_file_35 rfl ?_
        refine c_get hκ kX3 (by exact (h.sc.kt hTT)) 0 (by decide) (Or.inr ⟨_, q519⟩) rfl (by exact (h.sc.ot hTT)) dX0_file_37 ?_
        refine c_callF  hκ (mJ2_size t4) (by omega) (by decide) vX0_100_J2 fJ2_size kJ2 (by exact (h.sc.ktl hTT)) rfl (Nat.le_of_ble_eq_true rfl) dX0_file_40 (jIr (fun r40 h40 => ?_))
        subst h40
        refine x_aload hκ dX0_file_45 rfl ?_
        refine c_get hκ kX3 (by exact (h.sc.kt hTT)) 1 (by decide) (Or.inr ⟨_, q521⟩) rfl (by exact t1) dX0_file_47 ?_
        refine x_icmp_lt (tgt := 73) hκ dX0_file_50 (by decide) (fun c50 => ?_) (fun c50 => ?_)
        · -- X0_file 50T
          have i50 := c50
          simp (disch := omega) only [i32_lt, i32_le, i32_eq, Int32.reduceToInt, nI_toInt] at i50
          refine x_iincN (y := 1) hκ dX0_file_73 (by decide) rfl (by rw [hL]; decide) rfl (by (try simp (disch := omega) only [oS_k, oS_o, oS_a, oS_f, oS_n, aS_k, aS_o, aS_a, aS_f, aS_n, fS_k, fS_o, fS_a, fS_f, fS_n, nO_k, nO_o, nO_a, nA_k, nA_o, nA_a, nA_f, nA_n, nF_k, nF_o, nF_a, nF_f, nF_n, Nat.reduceEqDiff, ↓reduceIte, and_true, true_and, and_false, false_and, reduceCtorEq, xl_0, xl_1, xl_2, nI_add, nI_1, nm_2, nm_3, nm_4, nm_6, nm_7, nm_8, nm_12, nm_16, na_0, na_2, na_3, na_4, na_5, na_6, na_7, na_8, nm_p, nm_m, nI_clamp]); first | exact h.sc.o (by decide) rfl | exact h.sc.ob1 (by omega) | exact h.sc.ob2 (by omega) | exact h.sc.ob3 (by omega) | exact h.sc.ot (by omega) | exact h.sc.fb (by omega) | exact h.sc.ft (by omega) (by omega) | exact h.sc.fs (by omega) | exact h.p.1 | exact h.p.2.2.2.2.1 | exact h.p.2.2.2.2.2.1 | exact h.p.2.2.2.2.2.2.1 | exact h.p.2.2.2.2.2.2.2.1 | exact h.p.2.2.2.2.2.2.2.2.1 | exact rfl) ?_
          refine x_goto (tgt := 7) hκ dX0_file_76 (by decide) ?_
          exact same (fun z => z.2.2.2 (by rw [t2]; rw [i32_lt] at c50; exact c50)) _ rfl
        · -- X0_file 50F
          have i50 := c50
          simp (disch := omega) only [i32_lt, i32_le, i32_eq, Int32.reduceToInt, nI_toInt] at i50
          refine x_iload_n hκ dX0_file_53 rfl ?_
          refine x_iconst (v := 1) hκ dX0_file_54 (by decide) ?_
          refine x_iload_n hκ dX0_file_55 rfl ?_
          refine x_ishl hκ dX0_file_56 ?_
          refine x_iconst (v := (-1)) hκ dX0_file_57 (by decide) ?_
          refine x_ixor hκ dX0_file_58 ?_
          refine x_iand hκ dX0_file_59 ?_
          refine x_iconst (v := 1) hκ dX0_file_60 (by decide) ?_
          refine x_ior hκ dX0_file_61 ?_
          refine x_istore_n hκ dX0_file_62 (by rw [hL]; decide) rfl ?_
          refine x_aload_n hκ dX0_file_63 rfl ?_
          refine x_dup hκ dX0_file_64 rfl ?_
          refine c_get hκ kX0 (by (try simp (disch := omega) only [oS_k, oS_o, oS_a, oS_f, oS_n, aS_k, aS_o, aS_a, aS_f, aS_n, fS_k, fS_o, fS_a, fS_f, fS_n, nO_k, nO_o, nO_a, nA_k, nA_o, nA_a, nA_f, nA_n, nF_k, nF_o, nF_a, nF_f, nF_n, Nat.reduceEqDiff, ↓reduceIte, and_true, true_and, and_false, false_and, reduceCtorEq, xl_0, xl_1, xl_2, nI_add, nI_1, nm_2, nm_3, nm_4, nm_6, nm_7, nm_8, nm_12, nm_16, na_0, na_2, na_3, na_4, na_5, na_6, na_7, na_8, nm_p, nm_m, nI_clamp]); first | done | assumption | exact h.sc.k (by decide) | exact h.sc.kb (by omega) | exact h.sc.kbt (by omega) | exact h.sc.kbh (by omega) | exact h.sc.kba (by omega) | exact h.sc.kt (by omega) | exact h.sc.ktl (by omega) | exact h.sc.ks (by omega) | rfl) 16 (by decide) (Or.inl q646) rfl (by exact e16) dX0_file_65 ?_
          refine x_iconst (v := 1) hκ dX0_file_68 (by decide) ?_
          refine x_iadd hκ dX0_file_69 ?_
          refine c_put hκ kX0 (by (try simp (disch := omega) only [oS_k, oS_o, oS_a, oS_f, oS_n, aS_k, aS_o, aS_a, aS_f, aS_n, fS_k, fS_o, fS_a, fS_f, fS_n, nO_k, nO_o, nO_a, nA_k, nA_o, nA_a, nA_f, nA_n, nF_k, nF_o, nF_a, nF_f, nF_n, Nat.reduceEqDiff, ↓reduceIte, and_true, true_and, and_false, false_and, reduceCtorEq, xl_0, xl_1, xl_2, nI_add, nI_1, nm_2, nm_3, nm_4, nm_6, nm_7, nm_8, nm_12, nm_16, na_0, na_2, na_3, na_4, na_5, na_6, na_7, na_8, nm_p, nm_m, nI_clamp]); first | done | assumption | exact h.sc.k (by decide) | exact h.sc.kb (by omega) | exact h.sc.kbt (by omega) | exact h.sc.kbh (by omega) | exact h.sc.kba (by omega) | exact h.sc.kt (by omega) | exact h.sc.ktl (by omega) | exact h.sc.ks (by omega) | rfl) 16 (by decide) (Or.inl q646) rfl rfl (by rfl) (by rfl) dX0_file_70 ?_
          refine x_iincN (y := 1) hκ dX0_file_73 (by decide) rfl (by rw [hL]; decide) rfl (by (try simp (disch := omega) only [oS_k, oS_o, oS_a, oS_f, oS_n, aS_k, aS_o, aS_a, aS_f, aS_n, fS_k, fS_o, fS_a, fS_f, fS_n, nO_k, nO_o, nO_a, nA_k, nA_o, nA_a, nA_f, nA_n, nF_k, nF_o, nF_a, nF_f, nF_n, Nat.reduceEqDiff, ↓reduceIte, and_true, true_and, and_false, false_and, reduceCtorEq, xl_0, xl_1, xl_2, nI_add, nI_1, nm_2, nm_3, nm_4, nm_6, nm_7, nm_8, nm_12, nm_16, na_0, na_2, na_3, na_4, na_5, na_6, na_7, na_8, nm_p, nm_m, nI_clamp]); first | exact h.sc.o (by decide) rfl | exact h.sc.ob1 (by omega) | exact h.sc.ob2 (by omega) | exact h.sc.ob3 (by omega) | exact h.sc.ot (by omega) | exact h.sc.fb (by omega) | exact h.sc.ft (by omega) (by omega) | exact h.sc.fs (by omega) | exact h.p.1 | exact h.p.2.2.2.2.1 | exact h.p.2.2.2.2.2.1 | exact h.p.2.2.2.2.2.2.1 | exact h.p.2.2.2.2.2.2.2.1 | exact h.p.2.2.2.2.2.2.2.2.1 | exact rfl) ?_
          refine x_goto (tgt := 7) hκ dX0_file_76 (by decide) ?_
          have hc : 1 ≤ t ∧ bt (σ.1 49) t = true ∧ noneP σ b t := ⟨h1, hbit.mp c32, by omega, by rw [t2]; rw [i32_lt] at c50; exact c50⟩
          have n1 := h.num (k := 16) (k2 := 39) (Or.inr (Or.inr (Or.inr (Or.inr ⟨rfl, rfl⟩)))) (σ.1 39 + ncr σ b t + 1)
          rw [tS_tS] at n1
          have ne : ¬ L 44 = L 0 := h.sc.ne (by decide) (by decide) (by decide)
          have q := ih (t + 1) _ (some (.ref (L (11 + (4 * b + t))))) rfl (by omega) (by omega) (by rw [ncr, if_pos hc, ← Int32.add_assoc]; exact n1) (hq.o0 (by decide) _) (fun k => (oS_o.trans (if_neg (fun z => ne z.1))).trans (ha k))
          rw [bts, if_pos hc] at q
          exact q
/-- something is made: all stands as it did -/
theorem CWc.al {E : gE} {L : Nat → Nat} {γ : Gh} {σ : TS} {c : Int32} {s s' : CSt} (h : CWc E L γ σ c s) (hk : Kp (fun _ => False) s s') : CWc E L γ σ c s' :=
  ⟨h.sc.kp hk (fun _ _ z => z), h.p.kp h.sc hk (fun z => z) (fun z => z), h.l.kp hk (fun z => z) (Or.inr (fun z => z)) (fun _ _ z => z), h.b.kp h.sc hk (fun _ _ => ⟨fun z => z, fun z => z, fun z => z⟩), h.t.kp h.sc hk (fun _ _ => ⟨fun z => z, fun z => z, Or.inr (fun z => z), fun _ _ z => z⟩), h.kn.kp h.sc hk (fun z => z) (fun z => z), h.sh.kp h.sc hk (fun _ _ => ⟨fun z => z, fun _ z => z⟩), h.r.kp hk (fun _ _ z => z), h.x⟩
theorem Qu.al {L : Nat → Nat} {γ : Gh} {τ : TS} {s s' : CSt} (sc : Sc L s) (h : Qu L γ τ s) (hk : Kp (fun _ => False) s s') : Qu L γ τ s' := by
  obtain ⟨m, g1, g2, g3, g4⟩ := h
  refine ⟨m, g1, g2, ((hk _ (sc.z (by decide)) (fun z => z)).2.1 11).trans g3, fun i hi => ?_⟩
  obtain ⟨⟨l, q1, q2, q3⟩, q4, q5⟩ := g4 i hi
  exact ⟨⟨l, q1, q2, ((hk _ (sc.z (by decide)) (fun z => z)).2.2.2.1 i).trans q3⟩, ((hk _ (sc.z (by decide)) (fun z => z)).2.2.1 i).trans q4, ((hk _ (sc.z (by decide)) (fun z => z)).2.2.1 i).trans q5⟩
/-- a new copy stands beside all else -/
theorem new_cp {s : CSt} {q a : Nat} {m : Int32} (hq : s.1 q = 0) : Kp (fun _ => False) s (oS (oS (nO s q 15 [.null, .int 0, .int 0]) q 0 (.ref a)) q 1 (.int m)) := by
  refine (Kp.nO (P := fun _ => False) hq).trans (Q := fun b => b = q) ((Kp.oS (P := fun b => b = q) rfl).trans (Kp.oS (P := fun b => b = q) rfl) (fun _ _ z => z)) ?_
  rintro b hb rfl
  exact hb hq
