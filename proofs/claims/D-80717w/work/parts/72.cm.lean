theorem vX0_116_J2 : IW RX0 116 RJ2 ⟨"java/util/List", "add", "(Ljava/lang/Object;)Z"⟩ yJ2_add cJ2_add 2 (some .boolean) := ⟨lw_F q307 q310 q312 q72 q314, q309, q308, rfl, q313, q311, q276⟩
theorem fJ2_add : (⟨"java/util/List", "add", "(Ljava/lang/Object;)Z"⟩ : MethodName).cls ≠ "java/lang/invoke/MethodHandle" ∧ (⟨"java/util/List", "add", "(Ljava/lang/Object;)Z"⟩ : MethodName).cls ≠ "java/lang/invoke/VarHandle" ∧ (parseMethodDescriptor (⟨"java/util/List", "add", "(Ljava/lang/Object;)Z"⟩ : MethodName).desc).map (fun d => d.parameters.length) = some 1 := by decide +kernel
theorem vX0_396_J2 : IW RX0 396 RJ2 ⟨"java/util/List", "remove", "(I)Ljava/lang/Object;"⟩ yJ2_remove cJ2_remove 4 (some (FieldType.object "java/lang/Object")) := ⟨lw_F q955 q958 q960 q72 q962, q957, q956, rfl, q961, q959, q276⟩
theorem fJ2_remove : (⟨"java/util/List", "remove", "(I)Ljava/lang/Object;"⟩ : MethodName).cls ≠ "java/lang/invoke/MethodHandle" ∧ (⟨"java/util/List", "remove", "(I)Ljava/lang/Object;"⟩ : MethodName).cls ≠ "java/lang/invoke/VarHandle" ∧ (parseMethodDescriptor (⟨"java/util/List", "remove", "(I)Ljava/lang/Object;"⟩ : MethodName).desc).map (fun d => d.parameters.length) = some 1 := by decide +kernel
/-! the component: moving -/
theorem putC_40a {σ : TS} {t u : Nat} {l m w : Int32} : (putC σ t l m w).2 40 u = if u = t then σ.2 40 t + 1 else σ.2 40 u := rfl
theorem putC_fr {σ : TS} {t : Nat} {l m w : Int32} : Fr [40, 41, 42, 43] σ (putC σ t l m w) := ((((Fr.rf _ _).A rfl _ _).A rfl _ _).A rfl _ _).A rfl _ _
theorem putC_41 {σ : TS} {t n i : Nat} {l m w : Int32} (hn : σ.2 40 t = nI n) (h : n ≤ 299) : (putC σ t l m w).2 41 i = (if i = 300 * t + n then l else σ.2 41 i) ∧ (putC σ t l m w).2 42 i = (if i = 300 * t + n then m else σ.2 42 i) ∧ (putC σ t l m w).2 43 i = if i = 300 * t + n then w else σ.2 43 i := by
  unfold putC
  rw [hn, nI_clamp (by omega)]
  exact ⟨rfl, rfl, rfl⟩
theorem CWc.addC {E : gE} {L : Nat → Nat} {γ : Gh} {σ : TS} {c : Int32} {s : CSt} (h : CWc E L γ σ c s) {s' : CSt} (hE : s.1 (E.2 20) = 0) {t q l : Nat} {m w : Int32} (ht : t < 12) (hA : AddP E s (L (23 + t)) (vA γ (1 + t)) (vT γ t) (vC γ t) q s') (hn : vT γ t ≤ 298) (hq : s.1 q = 16) (hl : l < vN γ) (q0 : s.2.1 q 0 = .ref (vL γ l)) (q1 : s.2.1 q 1 = .int m) (q2 : s.2.1 q 2 = .int w) (hd : ∀ u, u < 12 → ∀ j, j < vT γ u → q ≠ vC γ u j) (hZ : ¬ vZ γ q) : ∃ ar', CWc E L (gT γ t (vT γ t + 1) ar' (va_up (vC γ t) (vT γ t) q)) (putC σ t (nI l) m w) c s' := by
  obtain ⟨ar', g1, g2, g3, g4⟩ := hA
  have h40 := (h.t t ht).2.1
  have hnq : ¬ (q = L (23 + t) ∨ q = vA γ (1 + t)) := fun z => by
    rcases z with z | z
    · rw [z, h.sc.ktl ht] at hq; omega
    · exact h.nP hE (by omega) (by omega) (by omega) z
  have kq := g4 q (by omega) hnq
  obtain ⟨a1, a2, a3, a4, a5, a6, a7, a8, a9, a10, a11⟩ := h.lst hE (r := 23 + t) (i := 1 + t) (by omega) (kst_t ht).2 (by omega) g4 g1.1
  refine ⟨ar', h.setT hE ht g4 g1 (g3.imp id (fun z => ⟨g2, z⟩)) (by omega) putC_fr (fun u hu => ?_) (fun u hu hne j hj => ?_) (fun i hi => ?_) (fun i hi u hu hne j hj => ?_) (fun i j hi hj z => ?_) (fun i hi => ?_)⟩
  · rw [putC_40a]
    by_cases e : u = t
    · rw [if_pos e, if_pos e, h40, nI_1]
    · rw [if_neg e, if_neg e]
  · obtain ⟨p1, p2, p3⟩ := putC_41 (i := 300 * u + j) (l := nI l) (m := m) (w := w) h40 (by omega)
    rw [p1, p2, p3, if_neg (by omega), if_neg (by omega), if_neg (by omega)]
    exact ⟨rfl, rfl, rfl⟩
  · obtain ⟨p1, p2, p3⟩ := putC_41 (i := 300 * t + i) (l := nI l) (m := m) (w := w) h40 (by omega)
    rw [p1, p2, p3]
    unfold va_up
    by_cases e : i = vT γ t
    · rw [if_pos e, if_pos (by omega), if_pos (by omega), if_pos (by omega)]
      exact ⟨kq.1.trans hq, l, hl, rfl, (kq.2.1 0).trans q0, (kq.2.1 1).trans q1, (kq.2.1 2).trans q2⟩
    · rw [if_neg e, if_neg (by omega), if_neg (by omega), if_neg (by omega)]
      exact a8 t i ht (by omega)
  · unfold va_up
    by_cases e : i = vT γ t
    · rw [if_pos e]; exact hd u hu j hj
    · rw [if_neg e]
      exact fun z => hne (h.x.2.2.2.1 t i u j ht hu (by omega) hj z).1.symm
  · unfold va_up at z
    by_cases e : i = vT γ t
    · rw [if_pos e] at z
      by_cases e' : j = vT γ t
      · omega
      · rw [if_neg e'] at z
        exact absurd z (hd t ht j (by omega))
    · rw [if_neg e] at z
      by_cases e' : j = vT γ t
      · rw [if_pos e'] at z
        exact absurd z.symm (hd t ht i (by omega))
      · rw [if_neg e'] at z
        exact (h.x.2.2.2.1 t i t j ht ht (by omega) (by omega) z).2
  · unfold va_up
    by_cases e : i = vT γ t
    · rw [if_pos e]; exact hZ
    · rw [if_neg e]; exact h.x.2.2.1 t i ht (by omega)
theorem shS_40 {σ : TS} {p n : Nat} : (shS σ p n).2 40 = σ.2 40 := rfl
theorem shS_fr {σ : TS} {p n a : Nat} {v : Int32} : Fr [40, 41, 42, 43] σ (shS (tA σ 40 a v) p n) := ((((Fr.rf _ _).A rfl _ _).F rfl _).F rfl _).F rfl _
theorem shS_41 {σ : TS} {p n a j : Nat} {v : Int32} : (shS (tA σ 40 a v) p n).2 41 j = shf (σ.2 41) p n j ∧ (shS (tA σ 40 a v) p n).2 42 j = shf (σ.2 42) p n j ∧ (shS (tA σ 40 a v) p n).2 43 j = shf (σ.2 43) p n j := ⟨rfl, rfl, rfl⟩
/-- a copy leaves tray t -/
theorem CWc.rmC {E : gE} {L : Nat → Nat} {γ : Gh} {σ : TS} {c : Int32} {s : CSt} (h : CWc E L γ σ c s) {s' : CSt} (hE : s.1 (E.2 20) = 0) {t i : Nat} (ht : t < 12) (hi : i < vT γ t) (hl : Lst E s' (L (23 + t)) (vA γ (1 + t)) (vT γ t - 1) (rmv (vC γ t) i)) (hk : Kp (fun b => b = L (23 + t) ∨ b = vA γ (1 + t)) s s') : CWc E L (gT γ t (vT γ t - 1) (vA γ (1 + t)) (rmv (vC γ t) i)) (shS (tA σ 40 t (σ.2 40 t - 1)) (300 * t + i) (vT γ t - 1 - i)) c s' := by
  obtain ⟨-, h40, h299, -, -⟩ := h.t t ht
  obtain ⟨a1, a2, a3, a4, a5, a6, a7, a8, a9, a10, a11⟩ := h.lst hE (r := 23 + t) (i := 1 + t) (by omega) (kst_t ht).2 (by omega) hk hl.1
  refine h.setT hE ht hk hl (Or.inl rfl) (by omega) shS_fr (fun u hu => ?_) (fun u hu hne j hj => ?_) (fun j hj => ?_) (fun j hj u hu hne k hk2 => ?_) (fun j k hj hk2 z => ?_) (fun j hj => ?_)
  · rw [shS_40, tA_2, if_pos rfl]
    unfold upd
    by_cases e : u = t
    · rw [if_pos e, if_pos e, h40, nm_p (by omega)]
    · rw [if_neg e, if_neg e]
  · obtain ⟨p1, p2, p3⟩ := shS_41 (σ := σ) (p := 300 * t + i) (n := vT γ t - 1 - i) (a := t) (j := 300 * u + j) (v := σ.2 40 t - 1)
    rw [p1, p2, p3]
    unfold shf
    rw [if_neg (by omega), if_neg (by omega), if_neg (by omega)]
    exact ⟨rfl, rfl, rfl⟩
  · obtain ⟨p1, p2, p3⟩ := shS_41 (σ := σ) (p := 300 * t + i) (n := vT γ t - 1 - i) (a := t) (j := 300 * t + j) (v := σ.2 40 t - 1)
    rw [p1, p2, p3]
    unfold shf rmv
    by_cases e : j < i
    · rw [if_pos e, if_neg (by omega), if_neg (by omega), if_neg (by omega)]
      exact a8 t j ht (by omega)
    · rw [if_neg e, if_pos (by omega), if_pos (by omega), if_pos (by omega)]
      exact a8 t (j + 1) ht (by omega)
  · unfold rmv
    split
    · exact fun z => hne (h.x.2.2.2.1 t j u k ht hu (by omega) hk2 z).1.symm
    · exact fun z => hne (h.x.2.2.2.1 t (j + 1) u k ht hu (by omega) hk2 z).1.symm
  · unfold rmv at z
    have hx := h.x.2.2.2.1
    split at z <;> split at z
    · exact (hx t j t k ht ht (by omega) (by omega) z).2
    · have := (hx t j t (k + 1) ht ht (by omega) (by omega) z).2; omega
    · have := (hx t (j + 1) t k ht ht (by omega) (by omega) z).2; omega
    · have := (hx t (j + 1) t (k + 1) ht ht (by omega) (by omega) z).2; omega
  · unfold rmv
    split
    · exact h.x.2.2.1 t j ht (by omega)
    · exact h.x.2.2.1 t (j + 1) ht (by omega)
theorem i32_mv {x y z : Int32} : x + (y - 1 - y) + (z + 1 - z) = x := by
  rw [Int32.sub_eq_add_neg y 1, Int32.add_comm y (-1), Int32.add_sub_cancel, Int32.add_comm z 1, Int32.add_sub_cancel, Int32.add_assoc]
  exact Int32.add_zero x
theorem putC_s40 {σ : TS} {t : Nat} {l m w : Int32} : (putC σ t l m w).2 40 = upd (σ.2 40) t (σ.2 40 t + 1) := rfl
theorem mvS_sum {σ : TS} {a b p n : Nat} {l m w : Int32} (ha : a < 12) (hb : b < 12) : l_sum ((putC (shS (tA σ 40 a (σ.2 40 a - 1)) p n) b l m w).2 40) 12 = l_sum (σ.2 40) 12 := by
  rw [putC_s40, l_sum_upd 12 hb, shS_40, tA_2, if_pos rfl, l_sum_upd 12 ha]
  exact i32_mv
theorem oX0_move {E : gE} {L : Nat → Nat} {γ : Gh} {σ : TS} {s : CSt} (h : CW E L γ σ s) (hcn : ∀ t, t < 12 → (σ.2 40 t).toInt ≤ 290) {b t i o : Int32} {r2 : Int32} {σ2 : TS} (h2 : (r2, σ2) = if isCp σ b t i ∧ 0 ≤ o.toInt ∧ o.toInt ≤ 3 then (if (0 < o.toInt ∧ o ≠ t) ∧ (σ.2 7 (Int32.toNatClampNeg (4 * b + o))).toInt ≤ (σ.2 40 (Int32.toNatClampNeg (4 * b + o))).toInt then (-3, σ) else ((mvS σ (Int32.toNatClampNeg (4 * b + t)) (Int32.toNatClampNeg i) (Int32.toNatClampNeg (4 * b + o))).2 40 (Int32.toNatClampNeg (4 * b + o)), mvS σ (Int32.toNatClampNeg (4 * b + t)) (Int32.toNatClampNeg i) (Int32.toNatClampNeg (4 * b + o)))) else (-1, σ)) : CMg E s yX0_move cX0_move 7 (some .int) 8 1 500 [.ref (L 0), .int b, .int t, .int i, .int o] (cQ E L r2 σ2) := by
  refine CMg.of (by decide) (Nat.le_of_ble_eq_true rfl) ?_
  rintro κ rfl hL hκ hr
  refine c_noE hκ (fun hE => ?_)
  refine x_aload_n hκ dX0_move_0 rfl ?_
  refine x_iload_n hκ dX0_move_1 rfl ?_
  refine x_iload_n hκ dX0_move_2 rfl ?_
  refine x_iload_n hκ dX0_move_3 rfl ?_
  refine c_callV (u := 1) (w := 500) hκ (mX0_copyAt h) (by omega) (by decide) wX0_384 aX0_copyAt kX0 (by (try simp (disch := omega) only [oS_k, oS_o, oS_a, oS_f, oS_n, aS_k, aS_o, aS_a, aS_f, aS_n, fS_k, fS_o, fS_a, fS_f, fS_n, nO_k, nO_o, nO_a, nA_k, nA_o, nA_a, nA_f, nA_n, nF_k, nF_o, nF_a, nF_f, nF_n, Nat.reduceEqDiff, ↓reduceIte, and_true, true_and, and_false, false_and, reduceCtorEq, xl_0, xl_1, xl_2, nI_add, nI_1, nm_2, nm_3, nm_4, nm_6, nm_7, nm_8, nm_12, nm_16, na_0, na_2, na_3, na_4, na_5, na_6, na_7, na_8, nm_p, nm_m, nI_clamp]); first | done | assumption | exact h.sc.k (by decide) | exact h.sc.kb (by omega) | exact h.sc.kbt (by omega) | exact h.sc.kbh (by omega) | exact h.sc.kba (by omega) | exact h.sc.kt (by omega) | exact h.sc.ktl (by omega) | exact h.sc.ks (by omega) | rfl) rfl (Nat.le_of_ble_eq_true rfl) dX0_move_4 (jOr (fun r4 h4 => ?_))
  rcases h4 with ⟨B, T, I, rfl, hB, rfl, hT, rfl, hI, hcp, rfl⟩ | ⟨hn, rfl⟩
  · have hTT : 4 * B + T < 12 := by omega
    have hvt := (h.t _ hTT).2.2.1
    obtain ⟨p1, l, p2, p3, p4, p5, p6⟩ := h.cp hTT hI
    show X κ (sG (kE κ) s) 1 500 _ _ [.ref (vC γ (4 * B + T) I)]
    refine x_astore hκ dX0_move_7 (by rw [hL]; decide) rfl ?_
    refine x_aload hκ dX0_move_9 rfl ?_
    refine x_ifnull hκ dX0_move_11 ?_
    refine x_iload hκ dX0_move_14 rfl ?_
    refine x_callSi hκ mX0_isTray (by omega) (by decide) wX0_217 aX0_isTray rfl (Nat.le_of_ble_eq_true rfl) dX0_move_16 (fun r16 h16 => ?_)
    refine x_if_ne (tgt := 24) hκ dX0_move_19 (by decide) (fun c19 => ?_) (fun c19 => ?_)
    · -- X0_move 19T
      have i19 := h16.t c19
      try simp only [Int32.reduceToInt] at i19
      rw [if_pos ⟨hcp, i19⟩] at h2
      obtain ⟨O, hO, rfl, -⟩ := i32_nat i19
      rw [cl_4bt hB hT, cl_4bt hB (show O < 4 by omega), nI_clamp (by omega)] at h2
      have hOO : 4 * B + O < 12 := by omega
      have hvo := (h.t _ hOO).2.2.1
      have hco := hcn _ hOO
      rw [(h.t _ hOO).2.1, nI_toInt (by omega)] at hco
      have go : ¬ ((0 < (nI O).toInt ∧ nI O ≠ nI T) ∧ (σ.2 7 (4 * B + O)).toInt ≤ (σ.2 40 (4 * B + O)).toInt) → X κ (sG (kE κ) s) 1 500 70 [some (.ref (L 0)), some (.int (nI B)), some (.int (nI T)), some (.int (nI I)), some (.int (nI O)), some (.ref (vC γ (4 * B + T) I)), some (.ref (L (11 + (4 * B + O))))] [] := by
        intro hno
        rw [if_neg hno] at h2
        obtain ⟨rfl, rfl⟩ := Prod.mk.inj h2
        refine x_aload_n hκ dX0_move_70 rfl ?_
        refine c_get hκ kX0 (by (try simp (disch := omega) only [oS_k, oS_o, oS_a, oS_f, oS_n, aS_k, aS_o, aS_a, aS_f, aS_n, fS_k, fS_o, fS_a, fS_f, fS_n, nO_k, nO_o, nO_a, nA_k, nA_o, nA_a, nA_f, nA_n, nF_k, nF_o, nF_a, nF_f, nF_n, Nat.reduceEqDiff, ↓reduceIte, and_true, true_and, and_false, false_and, reduceCtorEq, xl_0, xl_1, xl_2, nI_add, nI_1, nm_2, nm_3, nm_4, nm_6, nm_7, nm_8, nm_12, nm_16, na_0, na_2, na_3, na_4, na_5, na_6, na_7, na_8, nm_p, nm_m, nI_clamp]); first | done | assumption | exact h.sc.k (by decide) | exact h.sc.kb (by omega) | exact h.sc.kbt (by omega) | exact h.sc.kbh (by omega) | exact h.sc.kba (by omega) | exact h.sc.kt (by omega) | exact h.sc.ktl (by omega) | exact h.sc.ks (by omega) | rfl) 7 (by decide) (Or.inl q636) rfl (by (try simp (disch := omega) only [oS_k, oS_o, oS_a, oS_f, oS_n, aS_k, aS_o, aS_a, aS_f, aS_n, fS_k, fS_o, fS_a, fS_f, fS_n, nO_k, nO_o, nO_a, nA_k, nA_o, nA_a, nA_f, nA_n, nF_k, nF_o, nF_a, nF_f, nF_n, Nat.reduceEqDiff, ↓reduceIte, and_true, true_and, and_false, false_and, reduceCtorEq, xl_0, xl_1, xl_2, nI_add, nI_1, nm_2, nm_3, nm_4, nm_6, nm_7, nm_8, nm_12, nm_16, na_0, na_2, na_3, na_4, na_5, na_6, na_7, na_8, nm_p, nm_m, nI_clamp]); first | exact h.sc.o (by decide) rfl | exact h.sc.ob1 (by omega) | exact h.sc.ob2 (by omega) | exact h.sc.ob3 (by omega) | exact h.sc.ot (by omega) | exact h.sc.fb (by omega) | exact h.sc.ft (by omega) (by omega) | exact h.sc.fs (by omega) | exact h.p.1 | exact h.p.2.2.2.2.1 | exact h.p.2.2.2.2.2.1 | exact h.p.2.2.2.2.2.2.1 | exact h.p.2.2.2.2.2.2.2.1 | exact h.p.2.2.2.2.2.2.2.2.1 | exact rfl) dX0_move_71 ?_
        refine x_iload_n hκ dX0_move_74 rfl ?_
        refine c_aald (t := 6) hκ (by (try simp (disch := omega) only [oS_k, oS_o, oS_a, oS_f, oS_n, aS_k, aS_o, aS_a, aS_f, aS_n, fS_k, fS_o, fS_a, fS_f, fS_n, nO_k, nO_o, nO_a, nA_k, nA_o, nA_a, nA_f, nA_n, nF_k, nF_o, nF_a, nF_f, nF_n, Nat.reduceEqDiff, ↓reduceIte, and_true, true_and, and_false, false_and, reduceCtorEq, xl_0, xl_1, xl_2, nI_add, nI_1, nm_2, nm_3, nm_4, nm_6, nm_7, nm_8, nm_12, nm_16, na_0, na_2, na_3, na_4, na_5, na_6, na_7, na_8, nm_p, nm_m, nI_clamp]); first | done | assumption | exact h.sc.k (by decide) | exact h.sc.kb (by omega) | exact h.sc.kbt (by omega) | exact h.sc.kbh (by omega) | exact h.sc.kba (by omega) | exact h.sc.kt (by omega) | exact h.sc.ktl (by omega) | exact h.sc.ks (by omega) | rfl) (by decide) (by decide) (by (try simp (disch := omega) only [oS_k, oS_o, oS_a, oS_f, oS_n, aS_k, aS_o, aS_a, aS_f, aS_n, fS_k, fS_o, fS_a, fS_f, fS_n, nO_k, nO_o, nO_a, nA_k, nA_o, nA_a, nA_f, nA_n, nF_k, nF_o, nF_a, nF_f, nF_n, Nat.reduceEqDiff, ↓reduceIte, and_true, true_and, and_false, false_and, reduceCtorEq, xl_0, xl_1, xl_2, nI_add, nI_1, nm_2, nm_3, nm_4, nm_6, nm_7, nm_8, nm_12, nm_16, na_0, na_2, na_3, na_4, na_5, na_6, na_7, na_8, nm_p, nm_m, nI_clamp]); first | exact h.sc.n3 | exact h.sc.n4 | exact h.sc.nbt (by omega) | exact h.sc.nbh (by omega) | exact h.sc.nba (by omega) | exact h.sc.n41 | exact h.sc.n42 | exact h.sc.n43 | exact h.sc.n45 | exact h.sc.n46 | exact h.sc.n48 | exact rfl) (by first | ((with_reducible refine vp_in_nI ?_ ?_) <;> omega) | exact i32_in (by omega) (by omega) | exact i32_in' (by simp only [Int32.toInt_add, Int32.toInt_mul, Int32.toInt_sub, Int32.reduceToInt, Int.bmod_add_bmod, Int.bmod_sub_bmod, Int.add_bmod_bmod, Int.sub_bmod_bmod, Int.bmod_mul_bmod, Int.mul_bmod_bmod]; exact i32_bm (by omega) (by omega)) (by omega) (by omega) | exact i32_in (by decide) (by decide)) (by (try simp (disch := omega) only [oS_k, oS_o, oS_a, oS_f, oS_n, aS_k, aS_o, aS_a, aS_f, aS_n, fS_k, fS_o, fS_a, fS_f, fS_n, nO_k, nO_o, nO_a, nA_k, nA_o, nA_a, nA_f, nA_n, nF_k, nF_o, nF_a, nF_f, nF_n, Nat.reduceEqDiff, ↓reduceIte, and_true, true_and, and_false, false_and, reduceCtorEq, xl_0, xl_1, xl_2, nI_add, nI_1, nm_2, nm_3, nm_4, nm_6, nm_7, nm_8, nm_12, nm_16, na_0, na_2, na_3, na_4, na_5, na_6, na_7, na_8, nm_p, nm_m, nI_clamp]); first | exact h.sc.o (by decide) rfl | exact h.sc.ob1 (by omega) | exact h.sc.ob2 (by omega) | exact h.sc.ob3 (by omega) | exact h.sc.ot (by omega) | exact h.sc.fb (by omega) | exact h.sc.ft (by omega) (by omega) | exact h.sc.fs (by omega) | exact h.p.1 | exact h.p.2.2.2.2.1 | exact h.p.2.2.2.2.2.1 | exact h.p.2.2.2.2.2.2.1 | exact h.p.2.2.2.2.2.2.2.1 | exact h.p.2.2.2.2.2.2.2.2.1 | exact rfl) dX0_move_75 ?_
        refine c_get hκ kX2 (by (try simp (disch := omega) only [oS_k, oS_o, oS_a, oS_f, oS_n, aS_k, aS_o, aS_a, aS_f, aS_n, fS_k, fS_o, fS_a, fS_f, fS_n, nO_k, nO_o, nO_a, nA_k, nA_o, nA_a, nA_f, nA_n, nF_k, nF_o, nF_a, nF_f, nF_n, Nat.reduceEqDiff, ↓reduceIte, and_true, true_and, and_false, false_and, reduceCtorEq, xl_0, xl_1, xl_2, nI_add, nI_1, nm_2, nm_3, nm_4, nm_6, nm_7, nm_8, nm_12, nm_16, na_0, na_2, na_3, na_4, na_5, na_6, na_7, na_8, nm_p, nm_m, nI_clamp]); first | done | assumption | exact h.sc.k (by decide) | exact h.sc.kb (by omega) | exact h.sc.kbt (by omega) | exact h.sc.kbh (by omega) | exact h.sc.kba (by omega) | exact h.sc.kt (by omega) | exact h.sc.ktl (by omega) | exact h.sc.ks (by omega) | rfl) 1 (by decide) (Or.inr ⟨_, q534⟩) rfl (by (try simp (disch := omega) only [oS_k, oS_o, oS_a, oS_f, oS_n, aS_k, aS_o, aS_a, aS_f, aS_n, fS_k, fS_o, fS_a, fS_f, fS_n, nO_k, nO_o, nO_a, nA_k, nA_o, nA_a, nA_f, nA_n, nF_k, nF_o, nF_a, nF_f, nF_n, Nat.reduceEqDiff, ↓reduceIte, and_true, true_and, and_false, false_and, reduceCtorEq, xl_0, xl_1, xl_2, nI_add, nI_1, nm_2, nm_3, nm_4, nm_6, nm_7, nm_8, nm_12, nm_16, na_0, na_2, na_3, na_4, na_5, na_6, na_7, na_8, nm_p, nm_m, nI_clamp]); first | exact h.sc.o (by decide) rfl | exact h.sc.ob1 (by omega) | exact h.sc.ob2 (by omega) | exact h.sc.ob3 (by omega) | exact h.sc.ot (by omega) | exact h.sc.fb (by omega) | exact h.sc.ft (by omega) (by omega) | exact h.sc.fs (by omega) | exact h.p.1 | exact h.p.2.2.2.2.1 | exact h.p.2.2.2.2.2.1 | exact h.p.2.2.2.2.2.2.1 | exact h.p.2.2.2.2.2.2.2.1 | exact h.p.2.2.2.2.2.2.2.2.1 | exact rfl) dX0_move_76 ?_
        refine x_iload_n hκ dX0_move_79 rfl ?_
        refine c_aald (t := 7) hκ (by (try simp (disch := omega) only [oS_k, oS_o, oS_a, oS_f, oS_n, aS_k, aS_o, aS_a, aS_f, aS_n, fS_k, fS_o, fS_a, fS_f, fS_n, nO_k, nO_o, nO_a, nA_k, nA_o, nA_a, nA_f, nA_n, nF_k, nF_o, nF_a, nF_f, nF_n, Nat.reduceEqDiff, ↓reduceIte, and_true, true_and, and_false, false_and, reduceCtorEq, xl_0, xl_1, xl_2, nI_add, nI_1, nm_2, nm_3, nm_4, nm_6, nm_7, nm_8, nm_12, nm_16, na_0, na_2, na_3, na_4, na_5, na_6, na_7, na_8, nm_p, nm_m, nI_clamp]); first | done | assumption | exact h.sc.k (by decide) | exact h.sc.kb (by omega) | exact h.sc.kbt (by omega) | exact h.sc.kbh (by omega) | exact h.sc.kba (by omega) | exact h.sc.kt (by omega) | exact h.sc.ktl (by omega) | exact h.sc.ks (by omega) | rfl) (by decide) (by decide) (by (try simp (disch := omega) only [oS_k, oS_o, oS_a, oS_f, oS_n, aS_k, aS_o, aS_a, aS_f, aS_n, fS_k, fS_o, fS_a, fS_f, fS_n, nO_k, nO_o, nO_a, nA_k, nA_o, nA_a, nA_f, nA_n, nF_k, nF_o, nF_a, nF_f, nF_n, Nat.reduceEqDiff, ↓reduceIte, and_true, true_and, and_false, false_and, reduceCtorEq, xl_0, xl_1, xl_2, nI_add, nI_1, nm_2, nm_3, nm_4, nm_6, nm_7, nm_8, nm_12, nm_16, na_0, na_2, na_3, na_4, na_5, na_6, na_7, na_8, nm_p, nm_m, nI_clamp]); first | exact h.sc.n3 | exact h.sc.n4 | exact h.sc.nbt (by omega) | exact h.sc.nbh (by omega) | exact h.sc.nba (by omega) | exact h.sc.n41 | exact h.sc.n42 | exact h.sc.n43 | exact h.sc.n45 | exact h.sc.n46 | exact h.sc.n48 | exact rfl) (by first | ((with_reducible refine vp_in_nI ?_ ?_) <;> omega) | exact i32_in (by omega) (by omega) | exact i32_in' (by simp only [Int32.toInt_add, Int32.toInt_mul, Int32.toInt_sub, Int32.reduceToInt, Int.bmod_add_bmod, Int.bmod_sub_bmod, Int.add_bmod_bmod, Int.sub_bmod_bmod, Int.bmod_mul_bmod, Int.mul_bmod_bmod]; exact i32_bm (by omega) (by omega)) (by omega) (by omega) | exact i32_in (by decide) (by decide)) (by (try simp (disch := omega) only [oS_k, oS_o, oS_a, oS_f, oS_n, aS_k, aS_o, aS_a, aS_f, aS_n, fS_k, fS_o, fS_a, fS_f, fS_n, nO_k, nO_o, nO_a, nA_k, nA_o, nA_a, nA_f, nA_n, nF_k, nF_o, nF_a, nF_f, nF_n, Nat.reduceEqDiff, ↓reduceIte, and_true, true_and, and_false, false_and, reduceCtorEq, xl_0, xl_1, xl_2, nI_add, nI_1, nm_2, nm_3, nm_4, nm_6, nm_7, nm_8, nm_12, nm_16, na_0, na_2, na_3, na_4, na_5, na_6, na_7, na_8, nm_p, nm_m, nI_clamp]); first | exact h.sc.o (by decide) rfl | exact h.sc.ob1 (by omega) | exact h.sc.ob2 (by omega) | exact h.sc.ob3 (by omega) | exact h.sc.ot (by omega) | exact h.sc.fb (by omega) | exact h.sc.ft (by omega) (by omega) | exact h.sc.fs (by omega) | exact h.p.1 | exact h.p.2.2.2.2.1 | exact h.p.2.2.2.2.2.1 | exact h.p.2.2.2.2.2.2.1 | exact h.p.2.2.2.2.2.2.2.1 | exact h.p.2.2.2.2.2.2.2.2.1 | exact rfl) dX0_move_80 ?_
        refine c_get hκ kX3 (by (try simp (disch := omega) only [oS_k, oS_o, oS_a, oS_f, oS_n, aS_k, aS_o, aS_a, aS_f, aS_n, fS_k, fS_o, fS_a, fS_f, fS_n, nO_k, nO_o, nO_a, nA_k, nA_o, nA_a, nA_f, nA_n, nF_k, nF_o, nF_a, nF_f, nF_n, Nat.reduceEqDiff, ↓reduceIte, and_true, true_and, and_false, false_and, reduceCtorEq, xl_0, xl_1, xl_2, nI_add, nI_1, nm_2, nm_3, nm_4, nm_6, nm_7, nm_8, nm_12, nm_16, na_0, na_2, na_3, na_4, na_5, na_6, na_7, na_8, nm_p, nm_m, nI_clamp]); first | done | assumption | exact h.sc.k (by decide) | exact h.sc.kb (by omega) | exact h.sc.kbt (by omega) | exact h.sc.kbh (by omega) | exact h.sc.kba (by omega) | exact h.sc.kt (by omega) | exact h.sc.ktl (by omega) | exact h.sc.ks (by omega) | rfl) 0 (by decide) (Or.inr ⟨_, q519⟩) rfl (by (try simp (disch := omega) only [oS_k, oS_o, oS_a, oS_f, oS_n, aS_k, aS_o, aS_a, aS_f, aS_n, fS_k, fS_o, fS_a, fS_f, fS_n, nO_k, nO_o, nO_a, nA_k, nA_o, nA_a, nA_f, nA_n, nF_k, nF_o, nF_a, nF_f, nF_n, Nat.reduceEqDiff, ↓reduceIte, and_true, true_and, and_false, false_and, reduceCtorEq, xl_0, xl_1, xl_2, nI_add, nI_1, nm_2, nm_3, nm_4, nm_6, nm_7, nm_8, nm_12, nm_16, na_0, na_2, na_3, na_4, na_5, na_6, na_7, na_8, nm_p, nm_m, nI_clamp]); first | exact h.sc.o (by decide) rfl | exact h.sc.ob1 (by omega) | exact h.sc.ob2 (by omega) | exact h.sc.ob3 (by omega) | exact h.sc.ot (by omega) | exact h.sc.fb (by omega) | exact h.sc.ft (by omega) (by omega) | exact h.sc.fs (by omega) | exact h.p.1 | exact h.p.2.2.2.2.1 | exact h.p.2.2.2.2.2.1 | exact h.p.2.2.2.2.2.2.1 | exact h.p.2.2.2.2.2.2.2.1 | exact h.p.2.2.2.2.2.2.2.2.1 | exact rfl) dX0_move_81 ?_
        refine x_iload_n hκ dX0_move_84 rfl ?_
        refine c_callF (u := 1) (w := 500) hκ (mJ2_remove (h.aT hTT) hI (fun i hi => h.obC hTT hi)) (by omega) (by decide) vX0_396_J2 fJ2_remove kJ2 (by (try simp (disch := omega) only [oS_k, oS_o, oS_a, oS_f, oS_n, aS_k, aS_o, aS_a, aS_f, aS_n, fS_k, fS_o, fS_a, fS_f, fS_n, nO_k, nO_o, nO_a, nA_k, nA_o, nA_a, nA_f, nA_n, nF_k, nF_o, nF_a, nF_f, nF_n, Nat.reduceEqDiff, ↓reduceIte, and_true, true_and, and_false, false_and, reduceCtorEq, xl_0, xl_1, xl_2, nI_add, nI_1, nm_2, nm_3, nm_4, nm_6, nm_7, nm_8, nm_12, nm_16, na_0, na_2, na_3, na_4, na_5, na_6, na_7, na_8, nm_p, nm_m, nI_clamp]); first | done | assumption | exact h.sc.k (by decide) | exact h.sc.kb (by omega) | exact h.sc.kbt (by omega) | exact h.sc.kbh (by omega) | exact h.sc.kba (by omega) | exact h.sc.kt (by omega) | exact h.sc.ktl (by omega) | exact h.sc.ks (by omega) | rfl) rfl (Nat.le_of_ble_eq_true rfl) dX0_move_85 (jR (fun r85 s85 h85 => ?_))
        obtain ⟨rfl, g1, g2⟩ := h85
        have hC := h.rmC hE hTT hI g1 g2
        have kq := g2 (vC γ (4 * B + T) I) (by omega) (fun z => by rcases z with z | z; rw [z, h.sc.ktl hTT] at p1; omega; exact h.nP hE (by omega) (by omega) (by omega) z)
        refine c_noE hκ (fun hE1 => ?_)
        have hq16 : s85.1 (vC γ (4 * B + T) I) = 16 := kq.1.trans p1
        have hnC : ∀ u, u < 12 → ∀ j, j < vT (gT γ (4 * B + T) (vT γ (4 * B + T) - 1) (vA γ (1 + (4 * B + T))) (rmv (vC γ (4 * B + T)) I)) u → vC γ (4 * B + T) I ≠ vC (gT γ (4 * B + T) (vT γ (4 * B + T) - 1) (vA γ (1 + (4 * B + T))) (rmv (vC γ (4 * B + T)) I)) u j := by
          intro u hu j hj
          rw [gT_T] at hj
          rw [gT_C]
          by_cases e : u = 4 * B + T
          · rw [if_pos e] at hj ⊢
            unfold rmv
            intro z
            split at z
            · have := (h.x.2.2.2.1 _ _ _ _ hTT hTT hI (by omega) z).2; omega
            · have := (h.x.2.2.2.1 _ _ _ _ hTT hTT hI (by omega) z).2; omega
          · rw [if_neg e] at hj ⊢
            exact fun z => e (h.x.2.2.2.1 _ _ _ _ hTT hu hI hj z).1.symm
        have hTo : vT (gT γ (4 * B + T) (vT γ (4 * B + T) - 1) (vA γ (1 + (4 * B + T))) (rmv (vC γ (4 * B + T)) I)) (4 * B + O) ≤ vT γ (4 * B + O) := by rw [gT_T]; by_cases e : 4 * B + O = 4 * B + T <;> simp only [e, ↓reduceIte] <;> omega
        refine x_pop hκ dX0_move_90 rfl ?_
        refine x_aload hκ dX0_move_91 rfl ?_
        refine c_get hκ kX3 (by exact (hC.sc.kt hOO)) 0 (by decide) (Or.inr ⟨_, q519⟩) rfl (by exact (hC.sc.ot hOO)) dX0_move_93 ?_
        refine x_aload hκ dX0_move_96 rfl ?_
        refine x_room (u := 0 + 1) (w := 0 + (vT (gT γ (4 * B + T) (vT γ (4 * B + T) - 1) (vA γ (1 + (4 * B + T))) (rmv (vC γ (4 * B + T)) I)) (4 * B + O) + vT (gT γ (4 * B + T) (vT γ (4 * B + T) - 1) (vA γ (1 + (4 * B + T))) (rmv (vC γ (4 * B + T)) I)) (4 * B + O) / 2 + 10)) (Nat.le_refl _) (by omega) ?_
        refine c_callF  hκ (mJ2_add (hC.aT hOO) (by omega) (fun i hi => hC.obC hOO hi) ⟨15, _, _, _, _, kX17, hq16, by exact q1629⟩) (by omega) (by decide) vX0_116_J2 fJ2_add kJ2 (by exact (hC.sc.ktl hOO)) rfl (Nat.le_of_ble_eq_true rfl) dX0_move_98 (jI (fun r98 s98 h98 => ?_))
        obtain ⟨rfl, g3⟩ := h98
        obtain ⟨ar', hD⟩ := hC.addC hE1 hOO g3 (by omega) hq16 p2 ((kq.2.1 0).trans p4) ((kq.2.1 1).trans p5) ((kq.2.1 2).trans p6) hnC (h.x.2.2.1 _ _ hTT hI)
        refine x_pop hκ dX0_move_103 rfl ?_
        refine x_aload hκ dX0_move_104 rfl ?_
        refine c_get hκ kX3 (by exact (hD.sc.kt hOO)) 0 (by decide) (Or.inr ⟨_, q519⟩) rfl (by exact (hD.sc.ot hOO)) dX0_move_106 ?_
        refine c_callF  hκ (mJ2_size (hD.aT hOO)) (by omega) (by decide) vX0_100_J2 fJ2_size kJ2 (by exact (hD.sc.ktl hOO)) rfl (Nat.le_of_ble_eq_true rfl) dX0_move_109 (jIr (fun r109 h109 => ?_))
        refine c_reti hκ hr dX0_move_114 ?_
        have emv : mvS σ (4 * B + T) I (4 * B + O) = putC (shS (tA σ 40 (4 * B + T) (σ.2 40 (4 * B + T) - 1)) (300 * (4 * B + T) + I) (vT γ (4 * B + T) - 1 - I)) (4 * B + O) (nI l) (σ.2 42 (300 * (4 * B + T) + I)) (σ.2 43 (300 * (4 * B + T) + I)) := by
          unfold mvS
          rw [p3, show Int32.toNatClampNeg (σ.2 40 (4 * B + T)) = vT γ (4 * B + T) from by rw [(h.t _ hTT).2.1, nI_clamp (by omega)]]
        rw [emv]
        refine ⟨h109.trans (hD.t _ hOO).2.1.symm, _, CW.mk hD ?_⟩
        exact (mvS_sum hTT hOO).symm
      refine x_aload_n hκ dX0_move_24 rfl ?_
      refine c_get hκ kX0 (by (try simp (disch := omega) only [oS_k, oS_o, oS_a, oS_f, oS_n, aS_k, aS_o, aS_a, aS_f, aS_n, fS_k, fS_o, fS_a, fS_f, fS_n, nO_k, nO_o, nO_a, nA_k, nA_o, nA_a, nA_f, nA_n, nF_k, nF_o, nF_a, nF_f, nF_n, Nat.reduceEqDiff, ↓reduceIte, and_true, true_and, and_false, false_and, reduceCtorEq, xl_0, xl_1, xl_2, nI_add, nI_1, nm_2, nm_3, nm_4, nm_6, nm_7, nm_8, nm_12, nm_16, na_0, na_2, na_3, na_4, na_5, na_6, na_7, na_8, nm_p, nm_m, nI_clamp]); first | done | assumption | exact h.sc.k (by decide) | exact h.sc.kb (by omega) | exact h.sc.kbt (by omega) | exact h.sc.kbh (by omega) | exact h.sc.kba (by omega) | exact h.sc.kt (by omega) | exact h.sc.ktl (by omega) | exact h.sc.ks (by omega) | rfl) 7 (by decide) (Or.inl q636) rfl (by (try simp (disch := omega) only [oS_k, oS_o, oS_a, oS_f, oS_n, aS_k, aS_o, aS_a, aS_f, aS_n, fS_k, fS_o, fS_a, fS_f, fS_n, nO_k, nO_o, nO_a, nA_k, nA_o, nA_a, nA_f, nA_n, nF_k, nF_o, nF_a, nF_f, nF_n, Nat.reduceEqDiff, ↓reduceIte, and_true, true_and, and_false, false_and, reduceCtorEq, xl_0, xl_1, xl_2, nI_add, nI_1, nm_2, nm_3, nm_4, nm_6, nm_7, nm_8, nm_12, nm_16, na_0, na_2, na_3, na_4, na_5, na_6, na_7, na_8, nm_p, nm_m, nI_clamp]); first | exact h.sc.o (by decide) rfl | exact h.sc.ob1 (by omega) | exact h.sc.ob2 (by omega) | exact h.sc.ob3 (by omega) | exact h.sc.ot (by omega) | exact h.sc.fb (by omega) | exact h.sc.ft (by omega) (by omega) | exact h.sc.fs (by omega) | exact h.p.1 | exact h.p.2.2.2.2.1 | exact h.p.2.2.2.2.2.1 | exact h.p.2.2.2.2.2.2.1 | exact h.p.2.2.2.2.2.2.2.1 | exact h.p.2.2.2.2.2.2.2.2.1 | exact rfl) dX0_move_25 ?_
      refine x_iload_n hκ dX0_move_28 rfl ?_
      refine c_aald (t := 6) hκ (by (try simp (disch := omega) only [oS_k, oS_o, oS_a, oS_f, oS_n, aS_k, aS_o, aS_a, aS_f, aS_n, fS_k, fS_o, fS_a, fS_f, fS_n, nO_k, nO_o, nO_a, nA_k, nA_o, nA_a, nA_f, nA_n, nF_k, nF_o, nF_a, nF_f, nF_n, Nat.reduceEqDiff, ↓reduceIte, and_true, true_and, and_false, false_and, reduceCtorEq, xl_0, xl_1, xl_2, nI_add, nI_1, nm_2, nm_3, nm_4, nm_6, nm_7, nm_8, nm_12, nm_16, na_0, na_2, na_3, na_4, na_5, na_6, na_7, na_8, nm_p, nm_m, nI_clamp]); first | done | assumption | exact h.sc.k (by decide) | exact h.sc.kb (by omega) | exact h.sc.kbt (by omega) | exact h.sc.kbh (by omega) | exact h.sc.kba (by omega) | exact h.sc.kt (by omega) | exact h.sc.ktl (by omega) | exact h.sc.ks (by omega) | rfl) (by decide) (by decide) (by (try simp (disch := omega) only [oS_k, oS_o, oS_a, oS_f, oS_n, aS_k, aS_o, aS_a, aS_f, aS_n, fS_k, fS_o, fS_a, fS_f, fS_n, nO_k, nO_o, nO_a, nA_k, nA_o, nA_a, nA_f, nA_n, nF_k, nF_o, nF_a, nF_f, nF_n, Nat.reduceEqDiff, ↓reduceIte, and_true, true_and, and_false, false_and, reduceCtorEq, xl_0, xl_1, xl_2, nI_add, nI_1, nm_2, nm_3, nm_4, nm_6, nm_7, nm_8, nm_12, nm_16, na_0, na_2, na_3, na_4, na_5, na_6, na_7, na_8, nm_p, nm_m, nI_clamp]); first | exact h.sc.n3 | exact h.sc.n4 | exact h.sc.nbt (by omega) | exact h.sc.nbh (by omega) | exact h.sc.nba (by omega) | exact h.sc.n41 | exact h.sc.n42 | exact h.sc.n43 | exact h.sc.n45 | exact h.sc.n46 | exact h.sc.n48 | exact rfl) (by first | ((with_reducible refine vp_in_nI ?_ ?_) <;> omega) | exact i32_in (by omega) (by omega) | exact i32_in' (by simp only [Int32.toInt_add, Int32.toInt_mul, Int32.toInt_sub, Int32.reduceToInt, Int.bmod_add_bmod, Int.bmod_sub_bmod, Int.add_bmod_bmod, Int.sub_bmod_bmod, Int.bmod_mul_bmod, Int.mul_bmod_bmod]; exact i32_bm (by omega) (by omega)) (by omega) (by omega) | exact i32_in (by decide) (by decide)) (by (try simp (disch := omega) only [oS_k, oS_o, oS_a, oS_f, oS_n, aS_k, aS_o, aS_a, aS_f, aS_n, fS_k, fS_o, fS_a, fS_f, fS_n, nO_k, nO_o, nO_a, nA_k, nA_o, nA_a, nA_f, nA_n, nF_k, nF_o, nF_a, nF_f, nF_n, Nat.reduceEqDiff, ↓reduceIte, and_true, true_and, and_false, false_and, reduceCtorEq, xl_0, xl_1, xl_2, nI_add, nI_1, nm_2, nm_3, nm_4, nm_6, nm_7, nm_8, nm_12, nm_16, na_0, na_2, na_3, na_4, na_5, na_6, na_7, na_8, nm_p, nm_m, nI_clamp]); first | exact h.sc.o (by decide) rfl | exact h.sc.ob1 (by omega) | exact h.sc.ob2 (by omega) | exact h.sc.ob3 (by omega) | exact h.sc.ot (by omega) | exact h.sc.fb (by omega) | exact h.sc.ft (by omega) (by omega) | exact h.sc.fs (by omega) | exact h.p.1 | exact h.p.2.2.2.2.1 | exact h.p.2.2.2.2.2.1 | exact h.p.2.2.2.2.2.2.1 | exact h.p.2.2.2.2.2.2.2.1 | exact h.p.2.2.2.2.2.2.2.2.1 | exact rfl) dX0_move_29 ?_
      refine c_get hκ kX2 (by (try simp (disch := omega) only [oS_k, oS_o, oS_a, oS_f, oS_n, aS_k, aS_o, aS_a, aS_f, aS_n, fS_k, fS_o, fS_a, fS_f, fS_n, nO_k, nO_o, nO_a, nA_k, nA_o, nA_a, nA_f, nA_n, nF_k, nF_o, nF_a, nF_f, nF_n, Nat.reduceEqDiff, ↓reduceIte, and_true, true_and, and_false, false_and, reduceCtorEq, xl_0, xl_1, xl_2, nI_add, nI_1, nm_2, nm_3, nm_4, nm_6, nm_7, nm_8, nm_12, nm_16, na_0, na_2, na_3, na_4, na_5, na_6, na_7, na_8, nm_p, nm_m, nI_clamp]); first | done | assumption | exact h.sc.k (by decide) | exact h.sc.kb (by omega) | exact h.sc.kbt (by omega) | exact h.sc.kbh (by omega) | exact h.sc.kba (by omega) | exact h.sc.kt (by omega) | exact h.sc.ktl (by omega) | exact h.sc.ks (by omega) | rfl) 1 (by decide) (Or.inr ⟨_, q534⟩) rfl (by (try simp (disch := omega) only [oS_k, oS_o, oS_a, oS_f, oS_n, aS_k, aS_o, aS_a, aS_f, aS_n, fS_k, fS_o, fS_a, fS_f, fS_n, nO_k, nO_o, nO_a, nA_k, nA_o, nA_a, nA_f, nA_n, nF_k, nF_o, nF_a, nF_f, nF_n, Nat.reduceEqDiff, ↓reduceIte, and_true, true_and, and_false, false_and, reduceCtorEq, xl_0, xl_1, xl_2, nI_add, nI_1, nm_2, nm_3, nm_4, nm_6, nm_7, nm_8, nm_12, nm_16, na_0, na_2, na_3, na_4, na_5, na_6, na_7, na_8, nm_p, nm_m, nI_clamp]); first | exact h.sc.o (by decide) rfl | exact h.sc.ob1 (by omega) | exact h.sc.ob2 (by omega) | exact h.sc.ob3 (by omega) | exact h.sc.ot (by omega) | exact h.sc.fb (by omega) | exact h.sc.ft (by omega) (by omega) | exact h.sc.fs (by omega) | exact h.p.1 | exact h.p.2.2.2.2.1 | exact h.p.2.2.2.2.2.1 | exact h.p.2.2.2.2.2.2.1 | exact h.p.2.2.2.2.2.2.2.1 | exact h.p.2.2.2.2.2.2.2.2.1 | exact rfl) dX0_move_30 ?_
      refine x_iload hκ dX0_move_33 rfl ?_
      refine c_aald (t := 7) hκ (by (try simp (disch := omega) only [oS_k, oS_o, oS_a, oS_f, oS_n, aS_k, aS_o, aS_a, aS_f, aS_n, fS_k, fS_o, fS_a, fS_f, fS_n, nO_k, nO_o, nO_a, nA_k, nA_o, nA_a, nA_f, nA_n, nF_k, nF_o, nF_a, nF_f, nF_n, Nat.reduceEqDiff, ↓reduceIte, and_true, true_and, and_false, false_and, reduceCtorEq, xl_0, xl_1, xl_2, nI_add, nI_1, nm_2, nm_3, nm_4, nm_6, nm_7, nm_8, nm_12, nm_16, na_0, na_2, na_3, na_4, na_5, na_6, na_7, na_8, nm_p, nm_m, nI_clamp]); first | done | assumption | exact h.sc.k (by decide) | exact h.sc.kb (by omega) | exact h.sc.kbt (by omega) | exact h.sc.kbh (by omega) | exact h.sc.kba (by omega) | exact h.sc.kt (by omega) | exact h.sc.ktl (by omega) | exact h.sc.ks (by omega) | rfl) (by decide) (by decide) (by (try simp (disch := omega) only [oS_k, oS_o, oS_a, oS_f, oS_n, aS_k, aS_o, aS_a, aS_f, aS_n, fS_k, fS_o, fS_a, fS_f, fS_n, nO_k, nO_o, nO_a, nA_k, nA_o, nA_a, nA_f, nA_n, nF_k, nF_o, nF_a, nF_f, nF_n, Nat.reduceEqDiff, ↓reduceIte, and_true, true_and, and_false, false_and, reduceCtorEq, xl_0, xl_1, xl_2, nI_add, nI_1, nm_2, nm_3, nm_4, nm_6, nm_7, nm_8, nm_12, nm_16, na_0, na_2, na_3, na_4, na_5, na_6, na_7, na_8, nm_p, nm_m, nI_clamp]); first | exact h.sc.n3 | exact h.sc.n4 | exact h.sc.nbt (by omega) | exact h.sc.nbh (by omega) | exact h.sc.nba (by omega) | exact h.sc.n41 | exact h.sc.n42 | exact h.sc.n43 | exact h.sc.n45 | exact h.sc.n46 | exact h.sc.n48 | exact rfl) (by first | ((with_reducible refine vp_in_nI ?_ ?_) <;> omega) | exact i32_in (by omega) (by omega) | exact i32_in' (by simp only [Int32.toInt_add, Int32.toInt_mul, Int32.toInt_sub, Int32.reduceToInt, Int.bmod_add_bmod, Int.bmod_sub_bmod, Int.add_bmod_bmod, Int.sub_bmod_bmod, Int.bmod_mul_bmod, Int.mul_bmod_bmod]; exact i32_bm (by omega) (by omega)) (by omega) (by omega) | exact i32_in (by decide) (by decide)) (by (try simp (disch := omega) only [oS_k, oS_o, oS_a, oS_f, oS_n, aS_k, aS_o, aS_a, aS_f, aS_n, fS_k, fS_o, fS_a, fS_f, fS_n, nO_k, nO_o, nO_a, nA_k, nA_o, nA_a, nA_f, nA_n, nF_k, nF_o, nF_a, nF_f, nF_n, Nat.reduceEqDiff, ↓reduceIte, and_true, true_and, and_false, false_and, reduceCtorEq, xl_0, xl_1, xl_2, nI_add, nI_1, nm_2, nm_3, nm_4, nm_6, nm_7, nm_8, nm_12, nm_16, na_0, na_2, na_3, na_4, na_5, na_6, na_7, na_8, nm_p, nm_m, nI_clamp]); first | exact h.sc.o (by decide) rfl | exact h.sc.ob1 (by omega) | exact h.sc.ob2 (by omega) | exact h.sc.ob3 (by omega) | exact h.sc.ot (by omega) | exact h.sc.fb (by omega) | exact h.sc.ft (by omega) (by omega) | exact h.sc.fs (by omega) | exact h.p.1 | exact h.p.2.2.2.2.1 | exact h.p.2.2.2.2.2.1 | exact h.p.2.2.2.2.2.2.1 | exact h.p.2.2.2.2.2.2.2.1 | exact h.p.2.2.2.2.2.2.2.2.1 | exact rfl) dX0_move_35 ?_
      refine x_astore hκ dX0_move_36 (by rw [hL]; decide) rfl ?_
      refine x_iload hκ dX0_move_38 rfl ?_
      refine x_if_le (tgt := 70) hκ dX0_move_40 (by decide) (fun c40 => ?_) (fun c40 => ?_)
      · -- X0_move 40T
        have i40 := c40
        simp (disch := omega) only [i32_lt, i32_le, i32_eq, Int32.reduceToInt, nI_toInt] at i40
        exact go (fun z => by have := z.1.1; rw [nI_toInt (by omega)] at this; omega)
      · -- X0_move 40F
        have i40 := c40
        simp (disch := omega) only [i32_lt, i32_le, i32_eq, Int32.reduceToInt, nI_toInt] at i40
        refine x_iload hκ dX0_move_43 rfl ?_
        refine x_iload_n hκ dX0_move_45 rfl ?_
        refine x_icmp_eq (tgt := 70) hκ dX0_move_46 (by decide) (fun c46 => ?_) (fun c46 => ?_)
        · -- X0_move 46T
          have i46 := c46
          simp (disch := omega) only [i32_lt, i32_le, i32_eq, Int32.reduceToInt, nI_toInt] at i46
          exact go (fun z => z.1.2 c46)
        · -- X0_move 46F
          have i46 := c46
          simp (disch := omega) only [i32_lt, i32_le, i32_eq, Int32.reduceToInt, nI_toInt] at i46
          refine x_aload hκ dX0_move_49 rfl ?_
          refine c_get hκ kX3 (by (try simp (disch := omega) only [oS_k, oS_o, oS_a, oS_f, oS_n, aS_k, aS_o, aS_a, aS_f, aS_n, fS_k, fS_o, fS_a, fS_f, fS_n, nO_k, nO_o, nO_a, nA_k, nA_o, nA_a, nA_f, nA_n, nF_k, nF_o, nF_a, nF_f, nF_n, Nat.reduceEqDiff, ↓reduceIte, and_true, true_and, and_false, false_and, reduceCtorEq, xl_0, xl_1, xl_2, nI_add, nI_1, nm_2, nm_3, nm_4, nm_6, nm_7, nm_8, nm_12, nm_16, na_0, na_2, na_3, na_4, na_5, na_6, na_7, na_8, nm_p, nm_m, nI_clamp]); first | done | assumption | exact h.sc.k (by decide) | exact h.sc.kb (by omega) | exact h.sc.kbt (by omega) | exact h.sc.kbh (by omega) | exact h.sc.kba (by omega) | exact h.sc.kt (by omega) | exact h.sc.ktl (by omega) | exact h.sc.ks (by omega) | rfl) 0 (by decide) (Or.inr ⟨_, q519⟩) rfl (by (try simp (disch := omega) only [oS_k, oS_o, oS_a, oS_f, oS_n, aS_k, aS_o, aS_a, aS_f, aS_n, fS_k, fS_o, fS_a, fS_f, fS_n, nO_k, nO_o, nO_a, nA_k, nA_o, nA_a, nA_f, nA_n, nF_k, nF_o, nF_a, nF_f, nF_n, Nat.reduceEqDiff, ↓reduceIte, and_true, true_and, and_false, false_and, reduceCtorEq, xl_0, xl_1, xl_2, nI_add, nI_1, nm_2, nm_3, nm_4, nm_6, nm_7, nm_8, nm_12, nm_16, na_0, na_2, na_3, na_4, na_5, na_6, na_7, na_8, nm_p, nm_m, nI_clamp]); first | exact h.sc.o (by decide) rfl | exact h.sc.ob1 (by omega) | exact h.sc.ob2 (by omega) | exact h.sc.ob3 (by omega) | exact h.sc.ot (by omega) | exact h.sc.fb (by omega) | exact h.sc.ft (by omega) (by omega) | exact h.sc.fs (by omega) | exact h.p.1 | exact h.p.2.2.2.2.1 | exact h.p.2.2.2.2.2.1 | exact h.p.2.2.2.2.2.2.1 | exact h.p.2.2.2.2.2.2.2.1 | exact h.p.2.2.2.2.2.2.2.2.1 | exact rfl) dX0_move_51 ?_
          refine c_callF (u := 1) (w := 500) hκ (mJ2_size (h.aT hOO)) (by omega) (by decide) vX0_100_J2 fJ2_size kJ2 (by (try simp (disch := omega) only [oS_k, oS_o, oS_a, oS_f, oS_n, aS_k, aS_o, aS_a, aS_f, aS_n, fS_k, fS_o, fS_a, fS_f, fS_n, nO_k, nO_o, nO_a, nA_k, nA_o, nA_a, nA_f, nA_n, nF_k, nF_o, nF_a, nF_f, nF_n, Nat.reduceEqDiff, ↓reduceIte, and_true, true_and, and_false, false_and, reduceCtorEq, xl_0, xl_1, xl_2, nI_add, nI_1, nm_2, nm_3, nm_4, nm_6, nm_7, nm_8, nm_12, nm_16, na_0, na_2, na_3, na_4, na_5, na_6, na_7, na_8, nm_p, nm_m, nI_clamp]); first | done | assumption | exact h.sc.k (by decide) | exact h.sc.kb (by omega) | exact h.sc.kbt (by omega) | exact h.sc.kbh (by omega) | exact h.sc.kba (by omega) | exact h.sc.kt (by omega) | exact h.sc.ktl (by omega) | exact h.sc.ks (by omega) | rfl) rfl (Nat.le_of_ble_eq_true rfl) dX0_move_54 (jIr (fun r54 h54 => ?_))
          subst h54
          refine x_aload hκ dX0_move_59 rfl ?_
          refine c_get hκ kX3 (by (try simp (disch := omega) only [oS_k, oS_o, oS_a, oS_f, oS_n, aS_k, aS_o, aS_a, aS_f, aS_n, fS_k, fS_o, fS_a, fS_f, fS_n, nO_k, nO_o, nO_a, nA_k, nA_o, nA_a, nA_f, nA_n, nF_k, nF_o, nF_a, nF_f, nF_n, Nat.reduceEqDiff, ↓reduceIte, and_true, true_and, and_false, false_and, reduceCtorEq, xl_0, xl_1, xl_2, nI_add, nI_1, nm_2, nm_3, nm_4, nm_6, nm_7, nm_8, nm_12, nm_16, na_0, na_2, na_3, na_4, na_5, na_6, na_7, na_8, nm_p, nm_m, nI_clamp]); first | done | assumption | exact h.sc.k (by decide) | exact h.sc.kb (by omega) | exact h.sc.kbt (by omega) | exact h.sc.kbh (by omega) | exact h.sc.kba (by omega) | exact h.sc.kt (by omega) | exact h.sc.ktl (by omega) | exact h.sc.ks (by omega) | rfl) 1 (by decide) (Or.inr ⟨_, q521⟩) rfl (by exact (h.t _ hOO).1) dX0_move_61 ?_
          refine x_icmp_lt (tgt := 70) hκ dX0_move_64 (by decide) (fun c64 => ?_) (fun c64 => ?_)
          · -- X0_move 64T
            have i64 := c64
            simp (disch := omega) only [i32_lt, i32_le, i32_eq, Int32.reduceToInt, nI_toInt] at i64
            exact go (fun z => by have := z.2; rw [(h.t _ hOO).2.1, nI_toInt (by omega)] at this; omega)
          · -- X0_move 64F
            have i64 := c64
            simp (disch := omega) only [i32_lt, i32_le, i32_eq, Int32.reduceToInt, nI_toInt] at i64
            refine x_bipush (v := (-3)) hκ dX0_move_67 (by decide) ?_
            refine c_reti hκ hr dX0_move_69 ?_
            rw [if_pos ⟨⟨by rw [nI_toInt (by omega)]; omega, c46⟩, by rw [(h.t _ hOO).2.1, nI_toInt (by omega)]; omega⟩] at h2
            obtain ⟨rfl, rfl⟩ := Prod.mk.inj h2
            exact ⟨rfl, γ, h⟩
    · -- X0_move 19F
      have i19 := h16.f c19
      try simp only [Int32.reduceToInt] at i19
      refine x_iconst (v := (-1)) hκ dX0_move_22 (by decide) ?_
      refine c_reti hκ hr dX0_move_23 ?_
      rw [if_neg (fun z => i19 z.2)] at h2
      obtain ⟨rfl, rfl⟩ := Prod.mk.inj h2
      exact ⟨rfl, γ, h⟩
  · show X κ (sG (kE κ) s) 1 500 _ _ [.null]
    rw [if_neg (fun z => hn z.1)] at h2
    obtain ⟨rfl, rfl⟩ := Prod.mk.inj h2
    refine x_astoreN hκ dX0_move_7 (by rw [hL]; decide) rfl ?_
    refine x_aloadN hκ dX0_move_9 rfl ?_
    refine x_ifnullN (tgt := 22) hκ dX0_move_11 (by decide) ?_
    refine x_iconst (v := (-1)) hκ dX0_move_22 (by decide) ?_
    refine c_reti hκ hr dX0_move_23 ?_
    exact ⟨rfl, γ, h⟩
