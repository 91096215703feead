
/-! the component: the copies are made -/
/-- ghosts that differ in the trays alone -/
def gEq (γ γ' : Gh) : Prop := vL γ' = vL γ ∧ vN γ' = vN γ ∧ vZ γ' = vZ γ ∧ vR γ' = vR γ ∧ vS γ' = vS γ ∧ vQ γ' = vQ γ ∧ vE γ' = vE γ
theorem gEq.rf {γ : Gh} : gEq γ γ := ⟨rfl, rfl, rfl, rfl, rfl, rfl, rfl⟩
theorem gEq.T {γ γ' : Gh} (h : gEq γ γ') {t n ar : Nat} {e : Nat → Nat} : gEq γ (gT γ' t n ar e) := h
theorem gEq.qu {L : Nat → Nat} {γ γ' : Gh} {τ : TS} {s : CSt} (h : gEq γ γ') (hq : Qu L γ τ s) : Qu L γ' τ s := by
  unfold Qu
  rw [h.1, h.2.1]
  exact hq
/-- the row of what is to come stands apart from trays -/
theorem Qu.tr {E : gE} {L : Nat → Nat} {γ : Gh} {σ : TS} {c : Int32} {τ : TS} {s s' : CSt} (h : CWc E L γ σ c s) (hE : s.1 (E.2 20) = 0) (hq : Qu L γ τ s) {t : Nat} (ht : t < 12) (hk : Kp (fun b => b = L (23 + t) ∨ b = vA γ (1 + t)) s s') : Qu L γ τ s' ∧ ∀ k, s'.2.1 (L 44) k = s.2.1 (L 44) k := by
  have nL : ∀ {r : Nat}, r < 51 → r ≠ 23 + t → ¬ (L r = L (23 + t) ∨ L r = vA γ (1 + t)) := fun hr hn z => by
    rcases z with z | z
    · exact hn (h.sc.1 _ _ hr (by omega) z)
    · exact h.nP hE (by omega) (h.sc.z hr) (by rw [h.sc.k hr]; exact (kst_c hr).2.1) z
  obtain ⟨m, g1, g2, g3, g4⟩ := hq
  have k0 := hk (L 0) (h.sc.z (by decide)) (nL (by decide) (by omega))
  have k1 := hk (L 41) (h.sc.z (by decide)) (nL (by decide) (by omega))
  have k2 := hk (L 42) (h.sc.z (by decide)) (nL (by decide) (by omega))
  have k3 := hk (L 43) (h.sc.z (by decide)) (nL (by decide) (by omega))
  have k4 := hk (L 44) (h.sc.z (by decide)) (nL (by decide) (by omega))
  refine ⟨⟨m, g1, g2, (k0.2.1 11).trans g3, fun i hi => ?_⟩, k4.2.1⟩
  obtain ⟨⟨l, q1, q2, q3⟩, q4, q5⟩ := g4 i hi
  exact ⟨⟨l, q1, q2, (k1.2.2.2.1 i).trans q3⟩, (k2.2.2.1 i).trans q4, (k3.2.2.1 i).trans q5⟩
theorem fil_2 {κ : Kx} {d u w : Nat} (hκ : Ok κ cX0_file RX0 d) (hL : kL κ = 5) (hd : 8 ≤ d) {L : Nat → Nat} {γ : Gh} {σ : TS} {c : Int32} {l b : Nat} (hb : b < 3) (hl : l < vN γ) {τ : TS} {f : Nat → Value} {mk : Int32} (f1 : f 1 = .ref (vL γ l)) (f2 : f 2 = .ref (L (5 + b))) (f7 : f 7 = .int mk) (hmk : mk = 0 ∨ mk = 1) {bits : Int32} {p : Nat → Bool} (hp : ∀ j, j < 4 → bt bits j = p j) (hcn : ∀ t, t < 12 → (σ.2 40 t).toInt ≤ 280)
    (J : ∀ (s' : CSt) (γ' : Gh), gEq γ γ' → CWc (kE κ) L γ' (flC σ l b mk p 4) c s' → Qu L γ' τ s' → (∀ k, s'.2.1 (L 44) k = f k) → X κ (sG (kE κ) s') u w 143 [some (.ref (L 0)), some (.ref (L 44)), some (.int bits), some (.int (cntC p 4)), some (.int (nI 4))] []) :
    ∀ (m t : Nat) (s : CSt) (γ' : Gh), t + m = 4 → gEq γ γ' → CWc (kE κ) L γ' (flC σ l b mk p t) c s → Qu L γ' τ s → (∀ k, s.2.1 (L 44) k = f k) → X κ (sG (kE κ) s) (u + 2 * m) (w + 500 * m) 84 [some (.ref (L 0)), some (.ref (L 44)), some (.int bits), some (.int (cntC p t)), some (.int (nI t))] [] := by
  intro m
  induction m with
  | zero =>
    intro t s γ' hm hg h hq ha
    obtain rfl : t = 4 := by omega
    refine x_iload hκ dX0_file_84 rfl ?_
    refine x_iconst (v := 4) hκ dX0_file_86 (by decide) ?_
    refine x_icmp_ge (tgt := 143) hκ dX0_file_87 (by decide) (fun c87 => ?_) (fun c87 => ?_)
    · -- X0_file 87T
      have i87 := c87
      simp (disch := omega) only [i32_lt, i32_le, i32_eq, Int32.reduceToInt, nI_toInt] at i87
      exact J s γ' hg h hq ha
    · -- X0_file 87F
      have i87 := c87
      simp (disch := omega) only [i32_lt, i32_le, i32_eq, Int32.reduceToInt, nI_toInt] at i87
      exact absurd (by decide) c87
  | succ m ih =>
    intro t s γ' hm hg h hq ha
    have ht4 : t < 4 := by omega
    have hTT : 4 * b + t < 12 := by omega
    obtain ⟨t1, t2, t3, t4, t5⟩ := h.t (4 * b + t) hTT
    rw [flC_40, if_neg (by rintro ⟨j, h1, h2, h3⟩; omega)] at t2
    have h280 := hcn _ hTT
    rw [t2, nI_toInt (by omega)] at h280
    have hbit := bit_1 (x := bits) (p := t) (by omega)
    rw [hp t ht4] at hbit
    refine c_noE hκ (fun hE => ?_)
    refine x_iload hκ dX0_file_84 rfl ?_
    refine x_iconst (v := 4) hκ dX0_file_86 (by decide) ?_
    refine x_icmp_ge (tgt := 143) hκ dX0_file_87 (by decide) (fun c87 => ?_) (fun c87 => ?_)
    · -- X0_file 87T
      have i87 := c87
      simp (disch := omega) only [i32_lt, i32_le, i32_eq, Int32.reduceToInt, nI_toInt] at i87
      omega
    · -- X0_file 87F
      have i87 := c87
      simp (disch := omega) only [i32_lt, i32_le, i32_eq, Int32.reduceToInt, nI_toInt] at i87
      refine x_iload_n hκ dX0_file_90 rfl ?_
      refine x_iload hκ dX0_file_91 rfl ?_
      refine x_ishr hκ dX0_file_93 ?_
      refine x_iconst (v := 1) hκ dX0_file_94 (by decide) ?_
      refine x_iand hκ dX0_file_95 ?_
      refine x_iconst (v := 1) hκ dX0_file_96 (by decide) ?_
      refine x_icmp_ne (tgt := 137) hκ dX0_file_97 (by decide) (fun c97 => ?_) (fun c97 => ?_)
      · -- X0_file 97T
        have i97 := c97
        simp (disch := omega) only [i32_lt, i32_le, i32_eq, Int32.reduceToInt, nI_toInt] at i97
        refine x_iincN (y := 1) hκ dX0_file_137 (by decide) rfl (by rw [hL]; decide) rfl (by (try simp (disch := omega) only [oS_k, oS_o, oS_a, oS_f, oS_n, aS_k, aS_o, aS_a, aS_f, aS_n, fS_k, fS_o, fS_a, fS_f, fS_n, nO_k, nO_o, nO_a, nA_k, nA_o, nA_a, nA_f, nA_n, nF_k, nF_o, nF_a, nF_f, nF_n, Nat.reduceEqDiff, ↓reduceIte, and_true, true_and, and_false, false_and, reduceCtorEq, xl_0, xl_1, xl_2, nI_add, nI_1, nm_2, nm_3, nm_4, nm_6, nm_7, nm_8, nm_12, nm_16, na_0, na_2, na_3, na_4, na_5, na_6, na_7, na_8, nm_p, nm_m, nI_clamp]); first | exact h.sc.o (by decide) rfl | exact h.sc.ob1 (by omega) | exact h.sc.ob2 (by omega) | exact h.sc.ob3 (by omega) | exact h.sc.ot (by omega) | exact h.sc.fb (by omega) | exact h.sc.ft (by omega) (by omega) | exact h.sc.fs (by omega) | exact h.p.1 | exact h.p.2.2.2.2.1 | exact h.p.2.2.2.2.2.1 | exact h.p.2.2.2.2.2.2.1 | exact h.p.2.2.2.2.2.2.2.1 | exact h.p.2.2.2.2.2.2.2.2.1 | exact rfl) ?_
        refine x_goto (tgt := 84) hκ dX0_file_140 (by decide) ?_
        have hpf : ¬ p t = true := fun z => c97 (hbit.mpr z)
        refine x_room (u := u + 2 * m) (w := w + 500 * m) (by omega) (by omega) ?_
        have q := ih (t + 1) s γ' (by omega) hg (by rw [flC, if_neg hpf]; exact h) hq ha
        rw [cntC, if_neg hpf, Int32.add_zero] at q
        exact q
      · -- X0_file 97F
        have i97 := c97
        simp (disch := omega) only [i32_lt, i32_le, i32_eq, Int32.reduceToInt, nI_toInt] at i97
        refine x_aload_n hκ dX0_file_100 rfl ?_
        refine c_get hκ kX5 (by (try simp (disch := omega) only [oS_k, oS_o, oS_a, oS_f, oS_n, aS_k, aS_o, aS_a, aS_f, aS_n, fS_k, fS_o, fS_a, fS_f, fS_n, nO_k, nO_o, nO_a, nA_k, nA_o, nA_a, nA_f, nA_n, nF_k, nF_o, nF_a, nF_f, nF_n, Nat.reduceEqDiff, ↓reduceIte, and_true, true_and, and_false, false_and, reduceCtorEq, xl_0, xl_1, xl_2, nI_add, nI_1, nm_2, nm_3, nm_4, nm_6, nm_7, nm_8, nm_12, nm_16, na_0, na_2, na_3, na_4, na_5, na_6, na_7, na_8, nm_p, nm_m, nI_clamp]); first | done | assumption | exact h.sc.k (by decide) | exact h.sc.kb (by omega) | exact h.sc.kbt (by omega) | exact h.sc.kbh (by omega) | exact h.sc.kba (by omega) | exact h.sc.kt (by omega) | exact h.sc.ktl (by omega) | exact h.sc.ks (by omega) | rfl) 2 (by decide) (Or.inr ⟨_, q571⟩) rfl (by exact ((ha 2).trans f2)) dX0_file_101 ?_
        refine c_get hκ kX2 (by (try simp (disch := omega) only [oS_k, oS_o, oS_a, oS_f, oS_n, aS_k, aS_o, aS_a, aS_f, aS_n, fS_k, fS_o, fS_a, fS_f, fS_n, nO_k, nO_o, nO_a, nA_k, nA_o, nA_a, nA_f, nA_n, nF_k, nF_o, nF_a, nF_f, nF_n, Nat.reduceEqDiff, ↓reduceIte, and_true, true_and, and_false, false_and, reduceCtorEq, xl_0, xl_1, xl_2, nI_add, nI_1, nm_2, nm_3, nm_4, nm_6, nm_7, nm_8, nm_12, nm_16, na_0, na_2, na_3, na_4, na_5, na_6, na_7, na_8, nm_p, nm_m, nI_clamp]); first | done | assumption | exact h.sc.k (by decide) | exact h.sc.kb (by omega) | exact h.sc.kbt (by omega) | exact h.sc.kbh (by omega) | exact h.sc.kba (by omega) | exact h.sc.kt (by omega) | exact h.sc.ktl (by omega) | exact h.sc.ks (by omega) | rfl) 1 (by decide) (Or.inr ⟨_, q534⟩) rfl (by (try simp (disch := omega) only [oS_k, oS_o, oS_a, oS_f, oS_n, aS_k, aS_o, aS_a, aS_f, aS_n, fS_k, fS_o, fS_a, fS_f, fS_n, nO_k, nO_o, nO_a, nA_k, nA_o, nA_a, nA_f, nA_n, nF_k, nF_o, nF_a, nF_f, nF_n, Nat.reduceEqDiff, ↓reduceIte, and_true, true_and, and_false, false_and, reduceCtorEq, xl_0, xl_1, xl_2, nI_add, nI_1, nm_2, nm_3, nm_4, nm_6, nm_7, nm_8, nm_12, nm_16, na_0, na_2, na_3, na_4, na_5, na_6, na_7, na_8, nm_p, nm_m, nI_clamp]); first | exact h.sc.o (by decide) rfl | exact h.sc.ob1 (by omega) | exact h.sc.ob2 (by omega) | exact h.sc.ob3 (by omega) | exact h.sc.ot (by omega) | exact h.sc.fb (by omega) | exact h.sc.ft (by omega) (by omega) | exact h.sc.fs (by omega) | exact h.p.1 | exact h.p.2.2.2.2.1 | exact h.p.2.2.2.2.2.1 | exact h.p.2.2.2.2.2.2.1 | exact h.p.2.2.2.2.2.2.2.1 | exact h.p.2.2.2.2.2.2.2.2.1 | exact rfl) dX0_file_104 ?_
        refine x_iload hκ dX0_file_107 rfl ?_
        refine c_aald (t := 7) hκ (by (try simp (disch := omega) only [oS_k, oS_o, oS_a, oS_f, oS_n, aS_k, aS_o, aS_a, aS_f, aS_n, fS_k, fS_o, fS_a, fS_f, fS_n, nO_k, nO_o, nO_a, nA_k, nA_o, nA_a, nA_f, nA_n, nF_k, nF_o, nF_a, nF_f, nF_n, Nat.reduceEqDiff, ↓reduceIte, and_true, true_and, and_false, false_and, reduceCtorEq, xl_0, xl_1, xl_2, nI_add, nI_1, nm_2, nm_3, nm_4, nm_6, nm_7, nm_8, nm_12, nm_16, na_0, na_2, na_3, na_4, na_5, na_6, na_7, na_8, nm_p, nm_m, nI_clamp]); first | done | assumption | exact h.sc.k (by decide) | exact h.sc.kb (by omega) | exact h.sc.kbt (by omega) | exact h.sc.kbh (by omega) | exact h.sc.kba (by omega) | exact h.sc.kt (by omega) | exact h.sc.ktl (by omega) | exact h.sc.ks (by omega) | rfl) (by decide) (by decide) (by (try simp (disch := omega) only [oS_k, oS_o, oS_a, oS_f, oS_n, aS_k, aS_o, aS_a, aS_f, aS_n, fS_k, fS_o, fS_a, fS_f, fS_n, nO_k, nO_o, nO_a, nA_k, nA_o, nA_a, nA_f, nA_n, nF_k, nF_o, nF_a, nF_f, nF_n, Nat.reduceEqDiff, ↓reduceIte, and_true, true_and, and_false, false_and, reduceCtorEq, xl_0, xl_1, xl_2, nI_add, nI_1, nm_2, nm_3, nm_4, nm_6, nm_7, nm_8, nm_12, nm_16, na_0, na_2, na_3, na_4, na_5, na_6, na_7, na_8, nm_p, nm_m, nI_clamp]); first | exact h.sc.n3 | exact h.sc.n4 | exact h.sc.nbt (by omega) | exact h.sc.nbh (by omega) | exact h.sc.nba (by omega) | exact h.sc.n41 | exact h.sc.n42 | exact h.sc.n43 | exact h.sc.n45 | exact h.sc.n46 | exact h.sc.n48 | exact rfl) (by first | ((with_reducible refine vp_in_nI ?_ ?_) <;> omega) | exact i32_in (by omega) (by omega) | exact i32_in' (by simp only [Int32.toInt_add, Int32.toInt_mul, Int32.toInt_sub, Int32.reduceToInt, Int.bmod_add_bmod, Int.bmod_sub_bmod, Int.add_bmod_bmod, Int.sub_bmod_bmod, Int.bmod_mul_bmod, Int.mul_bmod_bmod]; exact i32_bm (by omega) (by omega)) (by omega) (by omega) | exact i32_in (by decide) (by decide)) (by (try simp (disch := omega) only [oS_k, oS_o, oS_a, oS_f, oS_n, aS_k, aS_o, aS_a, aS_f, aS_n, fS_k, fS_o, fS_a, fS_f, fS_n, nO_k, nO_o, nO_a, nA_k, nA_o, nA_a, nA_f, nA_n, nF_k, nF_o, nF_a, nF_f, nF_n, Nat.reduceEqDiff, ↓reduceIte, and_true, true_and, and_false, false_and, reduceCtorEq, xl_0, xl_1, xl_2, nI_add, nI_1, nm_2, nm_3, nm_4, nm_6, nm_7, nm_8, nm_12, nm_16, na_0, na_2, na_3, na_4, na_5, na_6, na_7, na_8, nm_p, nm_m, nI_clamp]); first | exact h.sc.o (by decide) rfl | exact h.sc.ob1 (by omega) | exact h.sc.ob2 (by omega) | exact h.sc.ob3 (by omega) | exact h.sc.ot (by omega) | exact h.sc.fb (by omega) | exact h.sc.ft (by omega) (by omega) | exact h.sc.fs (by omega) | exact h.p.1 | exact h.p.2.2.2.2.1 | exact h.p.2.2.2.2.2.1 | exact h.p.2.2.2.2.2.2.1 | exact h.p.2.2.2.2.2.2.2.1 | exact h.p.2.2.2.2.2.2.2.2.1 | exact rfl) dX0_file_109 ?_
        refine c_get hκ kX3 (by (try simp (disch := omega) only [oS_k, oS_o, oS_a, oS_f, oS_n, aS_k, aS_o, aS_a, aS_f, aS_n, fS_k, fS_o, fS_a, fS_f, fS_n, nO_k, nO_o, nO_a, nA_k, nA_o, nA_a, nA_f, nA_n, nF_k, nF_o, nF_a, nF_f, nF_n, Nat.reduceEqDiff, ↓reduceIte, and_true, true_and, and_false, false_and, reduceCtorEq, xl_0, xl_1, xl_2, nI_add, nI_1, nm_2, nm_3, nm_4, nm_6, nm_7, nm_8, nm_12, nm_16, na_0, na_2, na_3, na_4, na_5, na_6, na_7, na_8, nm_p, nm_m, nI_clamp]); first | done | assumption | exact h.sc.k (by decide) | exact h.sc.kb (by omega) | exact h.sc.kbt (by omega) | exact h.sc.kbh (by omega) | exact h.sc.kba (by omega) | exact h.sc.kt (by omega) | exact h.sc.ktl (by omega) | exact h.sc.ks (by omega) | rfl) 0 (by decide) (Or.inr ⟨_, q519⟩) rfl (by (try simp (disch := omega) only [oS_k, oS_o, oS_a, oS_f, oS_n, aS_k, aS_o, aS_a, aS_f, aS_n, fS_k, fS_o, fS_a, fS_f, fS_n, nO_k, nO_o, nO_a, nA_k, nA_o, nA_a, nA_f, nA_n, nF_k, nF_o, nF_a, nF_f, nF_n, Nat.reduceEqDiff, ↓reduceIte, and_true, true_and, and_false, false_and, reduceCtorEq, xl_0, xl_1, xl_2, nI_add, nI_1, nm_2, nm_3, nm_4, nm_6, nm_7, nm_8, nm_12, nm_16, na_0, na_2, na_3, na_4, na_5, na_6, na_7, na_8, nm_p, nm_m, nI_clamp]); first | exact h.sc.o (by decide) rfl | exact h.sc.ob1 (by omega) | exact h.sc.ob2 (by omega) | exact h.sc.ob3 (by omega) | exact h.sc.ot (by omega) | exact h.sc.fb (by omega) | exact h.sc.ft (by omega) (by omega) | exact h.sc.fs (by omega) | exact h.p.1 | exact h.p.2.2.2.2.1 | exact h.p.2.2.2.2.2.1 | exact h.p.2.2.2.2.2.2.1 | exact h.p.2.2.2.2.2.2.2.1 | exact h.p.2.2.2.2.2.2.2.2.1 | exact rfl) dX0_file_110 ?_
        refine x_room (u := (u + 2 * m + 1) + 1) (w := (w + 500 * m + 490) + 3) (by omega) (by omega) ?_
        refine c_new hκ kX17 q887 q888 q98 [.null, .int 0, .int 0] rfl (by decide) dX0_file_113 (fun q113 hq113 => ?_)
        sorry
