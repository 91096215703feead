theorem vX0_399_J2 : IW RX0 399 RJ2 ⟨"java/util/List", "clear", "()V"⟩ yJ2_clear cJ2_clear 4 none := ⟨lw_F q973 q976 q978 q72 q980, q975, q974, rfl, q979, q977, q276⟩
theorem fJ2_clear : (⟨"java/util/List", "clear", "()V"⟩ : MethodName).cls ≠ "java/lang/invoke/MethodHandle" ∧ (⟨"java/util/List", "clear", "()V"⟩ : MethodName).cls ≠ "java/lang/invoke/VarHandle" ∧ (parseMethodDescriptor (⟨"java/util/List", "clear", "()V"⟩ : MethodName).desc).map (fun d => d.parameters.length) = some 0 := by decide +kernel
/-! the component: trays change -/
/-- the ghost where tray t has n copies e in the array ar -/
def gT (γ : Gh) (t n ar : Nat) (e : Nat → Nat) : Gh := (vL γ, fun u => if u = t then e else vC γ u, fun j => if j = 1 + t then ar else vA γ j, vR γ, vS γ, vZ γ, vQ γ, vN γ, fun u => if u = t then n else vT γ u, vE γ)
theorem gT_C {γ : Gh} {t n ar u : Nat} {e : Nat → Nat} : vC (gT γ t n ar e) u = if u = t then e else vC γ u := rfl
theorem gT_A {γ : Gh} {t n ar j : Nat} {e : Nat → Nat} : vA (gT γ t n ar e) j = if j = 1 + t then ar else vA γ j := rfl
theorem gT_T {γ : Gh} {t n ar u : Nat} {e : Nat → Nat} : vT (gT γ t n ar e) u = if u = t then n else vT γ u := rfl
theorem CWc.nP {E : gE} {L : Nat → Nat} {γ : Gh} {σ : TS} {c : Int32} {s : CSt} (h : CWc E L γ σ c s) (hE : s.1 (E.2 20) = 0) {i x : Nat} (hi : i < 13) (hx : s.1 x ≠ 0) (hx4 : s.1 x ≠ 44) : x ≠ vA γ i := fun z => by
  rcases h.k44 hi with q | q
  · rw [z, q] at hx; exact hx hE
  · rw [z] at hx4; exact hx4 q
theorem CWc.kS {E : gE} {L : Nat → Nat} {γ : Gh} {σ : TS} {c : Int32} {s : CSt} (h : CWc E L γ σ c s) {i : Nat} (hi : i < 2) (hs : σ.2 54 i ≠ -1) : s.1 (vS γ i) = 33 ∨ s.1 (vS γ i) = 30 := by
  rcases h.sh.1 i hi with z | z
  · exact absurd z.1 hs
  · rw [z.2.2.1]
    by_cases e : σ.2 54 i = 0
    · rw [if_pos e]; exact Or.inl rfl
    · rw [if_neg e]; exact Or.inr rfl
/-- what a change of one list of ours leaves (r: the list, i: its array) -/
theorem CWc.lst {E : gE} {L : Nat → Nat} {γ : Gh} {σ : TS} {c : Int32} {s : CSt} (h : CWc E L γ σ c s) {s' : CSt} (hE : s.1 (E.2 20) = 0) {r i : Nat} (hr : r < 51) (h17k : kst r = 17) (hi : i < 13) (hk : Kp (fun b => b = L r ∨ b = vA γ i) s s') (h17 : s'.1 (L r) = 17) : Sc L s' ∧ cP L σ c s' ∧ cB L γ σ s' ∧ cK L σ s' ∧ cS L γ σ s' ∧ cR E γ s' ∧ (∀ k, k < vN γ → LtA γ σ s' k) ∧ (∀ t j, t < 12 → j < vT γ t → CpA γ σ s' t j) ∧ (∀ t, t < 12 → s'.2.1 (L (11 + t)) 1 = .int (σ.2 7 t)) ∧ (r ≠ 1 → i ≠ 0 → Lst E s' (L 1) (vA γ 0) (vN γ) (vL γ)) ∧ ∀ t, t < 12 → 23 + t ≠ r → 1 + t ≠ i → Lst E s' (L (23 + t)) (vA γ (1 + t)) (vT γ t) (vC γ t) := by
  have nL : ∀ {r' : Nat}, r' < 51 → r' ≠ r → ¬ (L r' = L r ∨ L r' = vA γ i) := fun hr' hn z => by
    rcases z with z | z
    · exact hn (h.sc.1 _ _ hr' hr z)
    · exact h.nP hE hi (h.sc.z hr') (by rw [h.sc.k hr']; exact (kst_c hr').2.1) z
  have nK : ∀ {x : Nat}, s.1 x ≠ 0 → s.1 x ≠ 44 → s.1 x ≠ 17 → ¬ (x = L r ∨ x = vA γ i) := fun h0 h4 h7 z => by
    rcases z with z | z
    · rw [z, h.sc.k hr, h17k] at h7; exact h7 rfl
    · exact h.nP hE hi h0 h4 z
  have nA : ∀ {j : Nat}, j < 13 → j ≠ i → vA γ j = E.2 20 ∨ ¬ (vA γ j = L r ∨ vA γ j = vA γ i) := by
    intro j hj hn
    rcases h.k44 hj with q | q
    · exact Or.inl q
    · by_cases e : vA γ j = E.2 20
      · exact Or.inl e
      · refine Or.inr (fun z => ?_)
        rcases z with z | z
        · rw [z, h.sc.k hr, h17k] at q; omega
        · rcases h.x.2.2.2.2 j i hj hi z with z2 | z2
          · exact e z2
          · exact hn z2
  have hns : ∀ {r' : Nat}, r' < 51 → kst r' ≠ 17 → ¬ (L r' = L r ∨ L r' = vA γ i) := fun hr' hn => nL hr' (fun z => hn (by rw [z]; exact h17k))
  refine ⟨h.sc.lst hr h17k (fun r' hr' z => h.nP hE hi (h.sc.z hr') (by rw [h.sc.k hr']; exact (kst_c hr').2.1) z.symm) h17 hk, h.p.kp h.sc hk (hns (by decide) (by decide)) (hns (by decide) (by decide)), h.b.kp h.sc hk (fun b hb => ⟨hns (by omega) (by rw [(kst_b hb).1]; decide), hns (by omega) (by rw [(kst_b hb).2.2.1]; decide), hns (by omega) (by rw [(kst_b hb).2.2.2]; decide)⟩), h.kn.kp h.sc hk (hns (by decide) (by decide)) (hns (by decide) (by decide)), h.sh.kp h.sc hk (fun j hj => ⟨hns (by omega) (by rw [kst_s hj]; decide), fun hs => ?_⟩), h.r.kp hk (fun b hb z => ?_), fun k hk2 => (h.lt hk2).kp hk (nK (by have := (h.lt hk2).1; omega) (by have := (h.lt hk2).1; omega) (by have := (h.lt hk2).1; omega)), fun t j ht hj => (h.cp ht hj).kp hk (nK (by have := (h.cp ht hj).1; omega) (by have := (h.cp ht hj).1; omega) (by have := (h.cp ht hj).1; omega)), fun t ht => ((hk _ (h.sc.z (by omega)) (hns (by omega) (by rw [(kst_t ht).1]; decide))).2.1 1).trans (h.t t ht).1, fun h1 h2 => h.aL.kp hk (nL (by decide) (Ne.symm h1)) (nA (by decide) (Ne.symm h2)), fun t ht h1 h2 => (h.aT ht).kp hk (nL (by omega) h1) (nA (by omega) h2)⟩
  · have := h.kS hj hs
    exact nK (by omega) (by omega) (by omega)
  · rcases z with z | z
    · exact h.x.1 r hr (by rw [← z]; exact hb)
    · exact h.x.2.1 i hi (by rw [← z]; exact hb)
theorem CWc.setT {E : gE} {L : Nat → Nat} {γ : Gh} {σ : TS} {c : Int32} {s : CSt} (h : CWc E L γ σ c s) {s' : CSt} (hE : s.1 (E.2 20) = 0) {t n' ar' : Nat} {e' : Nat → Nat} {σ' : TS} (ht : t < 12) (hk : Kp (fun b => b = L (23 + t) ∨ b = vA γ (1 + t)) s s') (hl : Lst E s' (L (23 + t)) ar' n' e') (har : ar' = vA γ (1 + t) ∨ (ar' ≠ E.2 20 ∧ s.1 ar' = 0)) (hn : n' ≤ 299) (hf : Fr [40, 41, 42, 43] σ σ') (h40 : ∀ u, u < 12 → σ'.2 40 u = if u = t then nI n' else σ.2 40 u) (h41 : ∀ u, u < 12 → u ≠ t → ∀ j, j < 300 → σ'.2 41 (300 * u + j) = σ.2 41 (300 * u + j) ∧ σ'.2 42 (300 * u + j) = σ.2 42 (300 * u + j) ∧ σ'.2 43 (300 * u + j) = σ.2 43 (300 * u + j))
    (hC : ∀ i, i < n' → s'.1 (e' i) = 16 ∧ ∃ l, l < vN γ ∧ σ'.2 41 (300 * t + i) = nI l ∧ s'.2.1 (e' i) 0 = .ref (vL γ l) ∧ s'.2.1 (e' i) 1 = .int (σ'.2 42 (300 * t + i)) ∧ s'.2.1 (e' i) 2 = .int (σ'.2 43 (300 * t + i))) (hd : ∀ i, i < n' → ∀ u, u < 12 → u ≠ t → ∀ j, j < vT γ u → e' i ≠ vC γ u j) (hd2 : ∀ i j, i < n' → j < n' → e' i = e' j → i = j) (hZ : ∀ i, i < n' → ¬ vZ γ (e' i)) : CWc E L (gT γ t n' ar' e') σ' c s' := by
  obtain ⟨a1, a2, a3, a4, a5, a6, a7, a8, a9, a10, a11⟩ := h.lst hE (r := 23 + t) (i := 1 + t) (by omega) (kst_t ht).2 (by omega) hk hl.1
  refine ⟨a1, a2.fr hf rfl, ⟨by rw [hf.o (l := [25]) rfl (by decide)]; exact h.l.1, h.l.2.1, (by rw [gT_A, if_neg (by omega)]; exact a10 (by omega) (by omega)), fun k hk2 => (a7 k hk2).fr hf rfl⟩, a3.fr hf rfl, fun u hu => ?_, a4.fr hf rfl, a5.fr hf rfl, a6, h.x.1, fun j hj => ?_, fun u i hu hi => ?_, fun u i u' i' hu hu' hi hi' q => ?_, fun i j hi hj q => ?_⟩
  · have h7 : s'.2.1 (L (11 + u)) 1 = .int (σ'.2 7 u) := by rw [hf.t (l := [7]) rfl (by decide)]; exact a9 u hu
    obtain ⟨g1, g2, g3, g4, g5⟩ := h.t u hu
    by_cases e : u = t
    · subst e
      refine ⟨h7, by rw [h40 u hu, if_pos rfl, gT_T, if_pos rfl], by rw [gT_T, if_pos rfl]; exact hn, by rw [gT_T, gT_C, gT_A, if_pos rfl, if_pos rfl, if_pos rfl]; exact hl, fun i hi => ?_⟩
      rw [gT_T, if_pos rfl] at hi
      unfold CpA
      rw [gT_C, if_pos rfl]
      exact hC i hi
    · refine ⟨h7, by rw [h40 u hu, if_neg e, gT_T, if_neg e]; exact g2, by rw [gT_T, if_neg e]; exact g3, by rw [gT_T, gT_C, gT_A, if_neg e, if_neg e, if_neg (by omega)]; exact a11 u hu (by omega) (by omega), fun i hi => ?_⟩
      rw [gT_T, if_neg e] at hi
      obtain ⟨e1, e2, e3⟩ := h41 u hu e i (by omega)
      unfold CpA
      rw [gT_C, if_neg e, e1, e2, e3]
      exact a8 u i hu hi
  · rw [gT_A]
    split
    · rcases har with z | z
      · rw [z]; exact h.x.2.1 _ (by omega)
      · exact fun q => h.r.1 _ q z.2
    · exact h.x.2.1 j hj
  · rw [gT_T] at hi
    rw [gT_C]
    by_cases e : u = t
    · rw [if_pos e] at hi ⊢; exact hZ i hi
    · rw [if_neg e] at hi ⊢; exact h.x.2.2.1 u i hu hi
  · rw [gT_T] at hi hi'
    rw [gT_C, gT_C] at q
    by_cases e : u = t
    · rw [if_pos e] at hi q
      by_cases e' : u' = t
      · rw [if_pos e'] at hi' q
        exact ⟨by omega, hd2 i i' hi hi' q⟩
      · rw [if_neg e'] at hi' q
        exact absurd q (hd i hi u' hu' e' i' hi')
    · rw [if_neg e] at hi q
      by_cases e' : u' = t
      · rw [if_pos e'] at hi' q
        exact absurd q.symm (hd i' hi' u hu e i hi)
      · rw [if_neg e'] at hi' q
        exact h.x.2.2.2.1 u i u' i' hu hu' hi hi' q
  · rw [gT_A, gT_A] at q
    rw [gT_A]
    have hfr : ∀ k, k < 13 → vA γ k = ar' → vA γ k = E.2 20 ∨ k = 1 + t := fun k hk2 z => by
      rcases har with z2 | z2
      · exact h.x.2.2.2.2 k (1 + t) hk2 (by omega) (z.trans z2)
      · rcases h.k44 hk2 with z3 | z3
        · exact Or.inl z3
        · rw [z, z2.2] at z3; omega
    by_cases e : i = 1 + t
    · rw [if_pos e] at q ⊢
      by_cases e' : j = 1 + t
      · exact Or.inr (by omega)
      · rw [if_neg e'] at q
        rcases hfr j hj q.symm with z | z
        · exact Or.inl (q.trans z)
        · exact absurd z e'
    · rw [if_neg e] at q ⊢
      by_cases e' : j = 1 + t
      · rw [if_pos e'] at q
        rcases hfr i hi q with z | z
        · exact Or.inl z
        · exact absurd z e
      · rw [if_neg e'] at q
        exact h.x.2.2.2.2 i j hi hj q
theorem CW.mk {E : gE} {L : Nat → Nat} {γ : Gh} {σ : TS} {s : CSt} {c : Int32} (h : CWc E L γ σ c s) (hc : c = l_sum (σ.2 40) 12) : CW E L γ σ s := by
  unfold CW
  rw [← hc]
  exact h
/-- the count of copies is put -/
theorem CWc.cnt {E : gE} {L : Nat → Nat} {γ : Gh} {σ : TS} {c : Int32} {s : CSt} (h : CWc E L γ σ c s) (c' : Int32) : CWc E L γ σ c' (oS s (L 0) 12 (.int c')) := by
  obtain ⟨a1, a2, a3, a4, a5, a6, a7⟩ := h.at (r := 0) (by omega) (Kp.oS (s := s) (k := 12) (v := .int c') rfl)
  obtain ⟨g1, g2, g3, g4, g5, g6, g7, g8, g9, g10⟩ := h.p
  refine ⟨h.sc.oS (by omega) rfl (by omega), ⟨?_, ?_, ?_, ?_, ?_, ?_, ?_, ?_, ?_, g10⟩, a2 (by omega), a3 (by omega) (by omega), a4 (by omega), a5 (by omega) (by omega), a6 (by omega), a7, h.x⟩
  · rw [oS_o, if_neg (by omega)]; exact g1
  · obtain ⟨x, hx⟩ := g2; exact ⟨x, by rw [oS_o, if_neg (by omega)]; exact hx⟩
  · obtain ⟨x, hx⟩ := g3; exact ⟨x, by rw [oS_o, if_neg (by omega)]; exact hx⟩
  · obtain ⟨x, hx⟩ := g4; exact ⟨x, by rw [oS_o, if_neg (by omega)]; exact hx⟩
  · rw [oS_o, if_pos ⟨rfl, rfl⟩]
  · rw [oS_o, if_neg (by omega)]; exact g6
  · rw [oS_o, if_neg (by omega)]; exact g7
  · rw [oS_o, if_neg (by omega)]; exact g8
  · rw [oS_o, if_neg (by omega)]; exact g9
theorem oX0_clear {E : gE} {L : Nat → Nat} {γ : Gh} {σ : TS} {s : CSt} (h : CW E L γ σ s) {b t : Int32} {r2 : Int32} {σ2 : TS} (h2 : if (0 ≤ b.toInt ∧ b.toInt ≤ 2) ∧ 0 ≤ t.toInt ∧ t.toInt ≤ 3 then r2 = σ.2 40 (Int32.toNatClampNeg (4 * b + t)) ∧ σ2 = tA σ 40 (Int32.toNatClampNeg (4 * b + t)) 0 else r2 = -1 ∧ σ2 = σ) : CMg E s yX0_clear cX0_clear 4 (some .int) 3 0 0 [.ref (L 0), .int b, .int t] (cQ E L r2 σ2) := by
  refine CMg.of (by decide) (Nat.le_of_ble_eq_true rfl) ?_
  rintro κ rfl hL hκ hr
  refine c_noE hκ (fun hE => ?_)
  refine x_iload_n hκ dX0_clear_0 rfl ?_
  refine x_callSi hκ mX0_isBox (by omega) (by decide) wX0_148 aX0_isBox rfl (Nat.le_of_ble_eq_true rfl) dX0_clear_1 (fun r1 h1 => ?_)
  refine x_if_eq (tgt := 14) hκ dX0_clear_4 (by decide) (fun c4 => ?_) (fun c4 => ?_)
  · -- X0_clear 4T
    have i4 := h1.f c4
    try simp only [Int32.reduceToInt] at i4
    refine x_iconst (v := (-1)) hκ dX0_clear_14 (by decide) ?_
    refine c_reti hκ hr dX0_clear_15 ?_
    rw [if_neg (by omega)] at h2
    obtain ⟨rfl, rfl⟩ := h2
    exact ⟨rfl, γ, h⟩
  · -- X0_clear 4F
    have i4 := h1.t c4
    try simp only [Int32.reduceToInt] at i4
    refine x_iload_n hκ dX0_clear_7 rfl ?_
    refine x_callSi hκ mX0_isTray (by omega) (by decide) wX0_217 aX0_isTray rfl (Nat.le_of_ble_eq_true rfl) dX0_clear_8 (fun r8 h8 => ?_)
    refine x_if_ne (tgt := 16) hκ dX0_clear_11 (by decide) (fun c11 => ?_) (fun c11 => ?_)
    · -- X0_clear 11T
      have i11 := h8.t c11
      try simp only [Int32.reduceToInt] at i11
      rw [if_pos ⟨i4, i11⟩] at h2
      obtain ⟨rfl, rfl⟩ := h2
      obtain ⟨B, hB, rfl, -⟩ := i32_nat i4
      obtain ⟨T, hT, rfl, -⟩ := i32_nat i11
      have hTT : 4 * B + T < 12 := by omega
      refine x_aload_n hκ dX0_clear_16 rfl ?_
      refine c_get hκ kX0 (by (try simp (disch := omega) only [oS_k, oS_o, oS_a, oS_f, oS_n, aS_k, aS_o, aS_a, aS_f, aS_n, fS_k, fS_o, fS_a, fS_f, fS_n, nO_k, nO_o, nO_a, nA_k, nA_o, nA_a, nA_f, nA_n, nF_k, nF_o, nF_a, nF_f, nF_n, Nat.reduceEqDiff, ↓reduceIte, and_true, true_and, and_false, false_and, reduceCtorEq, xl_0, xl_1, xl_2, nI_add, nI_1, nm_2, nm_3, nm_4, nm_6, nm_7, nm_8, nm_12, nm_16, na_0, na_2, na_3, na_4, na_5, na_6, na_7, na_8, nm_p, nm_m, nI_clamp]); first | done | assumption | exact h.sc.k (by decide) | exact h.sc.kb (by omega) | exact h.sc.kbt (by omega) | exact h.sc.kbh (by omega) | exact h.sc.kba (by omega) | exact h.sc.kt (by omega) | exact h.sc.ktl (by omega) | exact h.sc.ks (by omega) | rfl) 7 (by decide) (Or.inl q636) rfl (by (try simp (disch := omega) only [oS_k, oS_o, oS_a, oS_f, oS_n, aS_k, aS_o, aS_a, aS_f, aS_n, fS_k, fS_o, fS_a, fS_f, fS_n, nO_k, nO_o, nO_a, nA_k, nA_o, nA_a, nA_f, nA_n, nF_k, nF_o, nF_a, nF_f, nF_n, Nat.reduceEqDiff, ↓reduceIte, and_true, true_and, and_false, false_and, reduceCtorEq, xl_0, xl_1, xl_2, nI_add, nI_1, nm_2, nm_3, nm_4, nm_6, nm_7, nm_8, nm_12, nm_16, na_0, na_2, na_3, na_4, na_5, na_6, na_7, na_8, nm_p, nm_m, nI_clamp]); first | exact h.sc.o (by decide) rfl | exact h.sc.ob1 (by omega) | exact h.sc.ob2 (by omega) | exact h.sc.ob3 (by omega) | exact h.sc.ot (by omega) | exact h.sc.fb (by omega) | exact h.sc.ft (by omega) (by omega) | exact h.sc.fs (by omega) | exact h.p.1 | exact h.p.2.2.2.2.1 | exact h.p.2.2.2.2.2.1 | exact h.p.2.2.2.2.2.2.1 | exact h.p.2.2.2.2.2.2.2.1 | exact h.p.2.2.2.2.2.2.2.2.1 | exact rfl) dX0_clear_17 ?_
      refine x_iload_n hκ dX0_clear_20 rfl ?_
      refine c_aald (t := 6) hκ (by (try simp (disch := omega) only [oS_k, oS_o, oS_a, oS_f, oS_n, aS_k, aS_o, aS_a, aS_f, aS_n, fS_k, fS_o, fS_a, fS_f, fS_n, nO_k, nO_o, nO_a, nA_k, nA_o, nA_a, nA_f, nA_n, nF_k, nF_o, nF_a, nF_f, nF_n, Nat.reduceEqDiff, ↓reduceIte, and_true, true_and, and_false, false_and, reduceCtorEq, xl_0, xl_1, xl_2, nI_add, nI_1, nm_2, nm_3, nm_4, nm_6, nm_7, nm_8, nm_12, nm_16, na_0, na_2, na_3, na_4, na_5, na_6, na_7, na_8, nm_p, nm_m, nI_clamp]); first | done | assumption | exact h.sc.k (by decide) | exact h.sc.kb (by omega) | exact h.sc.kbt (by omega) | exact h.sc.kbh (by omega) | exact h.sc.kba (by omega) | exact h.sc.kt (by omega) | exact h.sc.ktl (by omega) | exact h.sc.ks (by omega) | rfl) (by decide) (by decide) (by (try simp (disch := omega) only [oS_k, oS_o, oS_a, oS_f, oS_n, aS_k, aS_o, aS_a, aS_f, aS_n, fS_k, fS_o, fS_a, fS_f, fS_n, nO_k, nO_o, nO_a, nA_k, nA_o, nA_a, nA_f, nA_n, nF_k, nF_o, nF_a, nF_f, nF_n, Nat.reduceEqDiff, ↓reduceIte, and_true, true_and, and_false, false_and, reduceCtorEq, xl_0, xl_1, xl_2, nI_add, nI_1, nm_2, nm_3, nm_4, nm_6, nm_7, nm_8, nm_12, nm_16, na_0, na_2, na_3, na_4, na_5, na_6, na_7, na_8, nm_p, nm_m, nI_clamp]); first | exact h.sc.n3 | exact h.sc.n4 | exact h.sc.nbt (by omega) | exact h.sc.nbh (by omega) | exact h.sc.nba (by omega) | exact h.sc.n41 | exact h.sc.n42 | exact h.sc.n43 | exact h.sc.n45 | exact h.sc.n46 | exact h.sc.n48 | exact rfl) (by first | ((with_reducible refine vp_in_nI ?_ ?_) <;> omega) | exact i32_in (by omega) (by omega) | exact i32_in' (by simp only [Int32.toInt_add, Int32.toInt_mul, Int32.toInt_sub, Int32.reduceToInt, Int.bmod_add_bmod, Int.bmod_sub_bmod, Int.add_bmod_bmod, Int.sub_bmod_bmod, Int.bmod_mul_bmod, Int.mul_bmod_bmod]; exact i32_bm (by omega) (by omega)) (by omega) (by omega) | exact i32_in (by decide) (by decide)) (by (try simp (disch := omega) only [oS_k, oS_o, oS_a, oS_f, oS_n, aS_k, aS_o, aS_a, aS_f, aS_n, fS_k, fS_o, fS_a, fS_f, fS_n, nO_k, nO_o, nO_a, nA_k, nA_o, nA_a, nA_f, nA_n, nF_k, nF_o, nF_a, nF_f, nF_n, Nat.reduceEqDiff, ↓reduceIte, and_true, true_and, and_false, false_and, reduceCtorEq, xl_0, xl_1, xl_2, nI_add, nI_1, nm_2, nm_3, nm_4, nm_6, nm_7, nm_8, nm_12, nm_16, na_0, na_2, na_3, na_4, na_5, na_6, na_7, na_8, nm_p, nm_m, nI_clamp]); first | exact h.sc.o (by decide) rfl | exact h.sc.ob1 (by omega) | exact h.sc.ob2 (by omega) | exact h.sc.ob3 (by omega) | exact h.sc.ot (by omega) | exact h.sc.fb (by omega) | exact h.sc.ft (by omega) (by omega) | exact h.sc.fs (by omega) | exact h.p.1 | exact h.p.2.2.2.2.1 | exact h.p.2.2.2.2.2.1 | exact h.p.2.2.2.2.2.2.1 | exact h.p.2.2.2.2.2.2.2.1 | exact h.p.2.2.2.2.2.2.2.2.1 | exact rfl) dX0_clear_21 ?_
      refine c_get hκ kX2 (by (try simp (disch := omega) only [oS_k, oS_o, oS_a, oS_f, oS_n, aS_k, aS_o, aS_a, aS_f, aS_n, fS_k, fS_o, fS_a, fS_f, fS_n, nO_k, nO_o, nO_a, nA_k, nA_o, nA_a, nA_f, nA_n, nF_k, nF_o, nF_a, nF_f, nF_n, Nat.reduceEqDiff, ↓reduceIte, and_true, true_and, and_false, false_and, reduceCtorEq, xl_0, xl_1, xl_2, nI_add, nI_1, nm_2, nm_3, nm_4, nm_6, nm_7, nm_8, nm_12, nm_16, na_0, na_2, na_3, na_4, na_5, na_6, na_7, na_8, nm_p, nm_m, nI_clamp]); first | done | assumption | exact h.sc.k (by decide) | exact h.sc.kb (by omega) | exact h.sc.kbt (by omega) | exact h.sc.kbh (by omega) | exact h.sc.kba (by omega) | exact h.sc.kt (by omega) | exact h.sc.ktl (by omega) | exact h.sc.ks (by omega) | rfl) 1 (by decide) (Or.inr ⟨_, q534⟩) rfl (by (try simp (disch := omega) only [oS_k, oS_o, oS_a, oS_f, oS_n, aS_k, aS_o, aS_a, aS_f, aS_n, fS_k, fS_o, fS_a, fS_f, fS_n, nO_k, nO_o, nO_a, nA_k, nA_o, nA_a, nA_f, nA_n, nF_k, nF_o, nF_a, nF_f, nF_n, Nat.reduceEqDiff, ↓reduceIte, and_true, true_and, and_false, false_and, reduceCtorEq, xl_0, xl_1, xl_2, nI_add, nI_1, nm_2, nm_3, nm_4, nm_6, nm_7, nm_8, nm_12, nm_16, na_0, na_2, na_3, na_4, na_5, na_6, na_7, na_8, nm_p, nm_m, nI_clamp]); first | exact h.sc.o (by decide) rfl | exact h.sc.ob1 (by omega) | exact h.sc.ob2 (by omega) | exact h.sc.ob3 (by omega) | exact h.sc.ot (by omega) | exact h.sc.fb (by omega) | exact h.sc.ft (by omega) (by omega) | exact h.sc.fs (by omega) | exact h.p.1 | exact h.p.2.2.2.2.1 | exact h.p.2.2.2.2.2.1 | exact h.p.2.2.2.2.2.2.1 | exact h.p.2.2.2.2.2.2.2.1 | exact h.p.2.2.2.2.2.2.2.2.1 | exact rfl) dX0_clear_22 ?_
      refine x_iload_n hκ dX0_clear_25 rfl ?_
      refine c_aald (t := 7) hκ (by (try simp (disch := omega) only [oS_k, oS_o, oS_a, oS_f, oS_n, aS_k, aS_o, aS_a, aS_f, aS_n, fS_k, fS_o, fS_a, fS_f, fS_n, nO_k, nO_o, nO_a, nA_k, nA_o, nA_a, nA_f, nA_n, nF_k, nF_o, nF_a, nF_f, nF_n, Nat.reduceEqDiff, ↓reduceIte, and_true, true_and, and_false, false_and, reduceCtorEq, xl_0, xl_1, xl_2, nI_add, nI_1, nm_2, nm_3, nm_4, nm_6, nm_7, nm_8, nm_12, nm_16, na_0, na_2, na_3, na_4, na_5, na_6, na_7, na_8, nm_p, nm_m, nI_clamp]); first | done | assumption | exact h.sc.k (by decide) | exact h.sc.kb (by omega) | exact h.sc.kbt (by omega) | exact h.sc.kbh (by omega) | exact h.sc.kba (by omega) | exact h.sc.kt (by omega) | exact h.sc.ktl (by omega) | exact h.sc.ks (by omega) | rfl) (by decide) (by decide) (by (try simp (disch := omega) only [oS_k, oS_o, oS_a, oS_f, oS_n, aS_k, aS_o, aS_a, aS_f, aS_n, fS_k, fS_o, fS_a, fS_f, fS_n, nO_k, nO_o, nO_a, nA_k, nA_o, nA_a, nA_f, nA_n, nF_k, nF_o, nF_a, nF_f, nF_n, Nat.reduceEqDiff, ↓reduceIte, and_true, true_and, and_false, false_and, reduceCtorEq, xl_0, xl_1, xl_2, nI_add, nI_1, nm_2, nm_3, nm_4, nm_6, nm_7, nm_8, nm_12, nm_16, na_0, na_2, na_3, na_4, na_5, na_6, na_7, na_8, nm_p, nm_m, nI_clamp]); first | exact h.sc.n3 | exact h.sc.n4 | exact h.sc.nbt (by omega) | exact h.sc.nbh (by omega) | exact h.sc.nba (by omega) | exact h.sc.n41 | exact h.sc.n42 | exact h.sc.n43 | exact h.sc.n45 | exact h.sc.n46 | exact h.sc.n48 | exact rfl) (by first | ((with_reducible refine vp_in_nI ?_ ?_) <;> omega) | exact i32_in (by omega) (by omega) | exact i32_in' (by simp only [Int32.toInt_add, Int32.toInt_mul, Int32.toInt_sub, Int32.reduceToInt, Int.bmod_add_bmod, Int.bmod_sub_bmod, Int.add_bmod_bmod, Int.sub_bmod_bmod, Int.bmod_mul_bmod, Int.mul_bmod_bmod]; exact i32_bm (by omega) (by omega)) (by omega) (by omega) | exact i32_in (by decide) (by decide)) (by (try simp (disch := omega) only [oS_k, oS_o, oS_a, oS_f, oS_n, aS_k, aS_o, aS_a, aS_f, aS_n, fS_k, fS_o, fS_a, fS_f, fS_n, nO_k, nO_o, nO_a, nA_k, nA_o, nA_a, nA_f, nA_n, nF_k, nF_o, nF_a, nF_f, nF_n, Nat.reduceEqDiff, ↓reduceIte, and_true, true_and, and_false, false_and, reduceCtorEq, xl_0, xl_1, xl_2, nI_add, nI_1, nm_2, nm_3, nm_4, nm_6, nm_7, nm_8, nm_12, nm_16, na_0, na_2, na_3, na_4, na_5, na_6, na_7, na_8, nm_p, nm_m, nI_clamp]); first | exact h.sc.o (by decide) rfl | exact h.sc.ob1 (by omega) | exact h.sc.ob2 (by omega) | exact h.sc.ob3 (by omega) | exact h.sc.ot (by omega) | exact h.sc.fb (by omega) | exact h.sc.ft (by omega) (by omega) | exact h.sc.fs (by omega) | exact h.p.1 | exact h.p.2.2.2.2.1 | exact h.p.2.2.2.2.2.1 | exact h.p.2.2.2.2.2.2.1 | exact h.p.2.2.2.2.2.2.2.1 | exact h.p.2.2.2.2.2.2.2.2.1 | exact rfl) dX0_clear_26 ?_
      refine c_get hκ kX3 (by (try simp (disch := omega) only [oS_k, oS_o, oS_a, oS_f, oS_n, aS_k, aS_o, aS_a, aS_f, aS_n, fS_k, fS_o, fS_a, fS_f, fS_n, nO_k, nO_o, nO_a, nA_k, nA_o, nA_a, nA_f, nA_n, nF_k, nF_o, nF_a, nF_f, nF_n, Nat.reduceEqDiff, ↓reduceIte, and_true, true_and, and_false, false_and, reduceCtorEq, xl_0, xl_1, xl_2, nI_add, nI_1, nm_2, nm_3, nm_4, nm_6, nm_7, nm_8, nm_12, nm_16, na_0, na_2, na_3, na_4, na_5, na_6, na_7, na_8, nm_p, nm_m, nI_clamp]); first | done | assumption | exact h.sc.k (by decide) | exact h.sc.kb (by omega) | exact h.sc.kbt (by omega) | exact h.sc.kbh (by omega) | exact h.sc.kba (by omega) | exact h.sc.kt (by omega) | exact h.sc.ktl (by omega) | exact h.sc.ks (by omega) | rfl) 0 (by decide) (Or.inr ⟨_, q519⟩) rfl (by (try simp (disch := omega) only [oS_k, oS_o, oS_a, oS_f, oS_n, aS_k, aS_o, aS_a, aS_f, aS_n, fS_k, fS_o, fS_a, fS_f, fS_n, nO_k, nO_o, nO_a, nA_k, nA_o, nA_a, nA_f, nA_n, nF_k, nF_o, nF_a, nF_f, nF_n, Nat.reduceEqDiff, ↓reduceIte, and_true, true_and, and_false, false_and, reduceCtorEq, xl_0, xl_1, xl_2, nI_add, nI_1, nm_2, nm_3, nm_4, nm_6, nm_7, nm_8, nm_12, nm_16, na_0, na_2, na_3, na_4, na_5, na_6, na_7, na_8, nm_p, nm_m, nI_clamp]); first | exact h.sc.o (by decide) rfl | exact h.sc.ob1 (by omega) | exact h.sc.ob2 (by omega) | exact h.sc.ob3 (by omega) | exact h.sc.ot (by omega) | exact h.sc.fb (by omega) | exact h.sc.ft (by omega) (by omega) | exact h.sc.fs (by omega) | exact h.p.1 | exact h.p.2.2.2.2.1 | exact h.p.2.2.2.2.2.1 | exact h.p.2.2.2.2.2.2.1 | exact h.p.2.2.2.2.2.2.2.1 | exact h.p.2.2.2.2.2.2.2.2.1 | exact rfl) dX0_clear_27 ?_
      refine c_callF  hκ (mJ2_size (h.aT hTT)) (by omega) (by decide) vX0_100_J2 fJ2_size kJ2 (by (try simp (disch := omega) only [oS_k, oS_o, oS_a, oS_f, oS_n, aS_k, aS_o, aS_a, aS_f, aS_n, fS_k, fS_o, fS_a, fS_f, fS_n, nO_k, nO_o, nO_a, nA_k, nA_o, nA_a, nA_f, nA_n, nF_k, nF_o, nF_a, nF_f, nF_n, Nat.reduceEqDiff, ↓reduceIte, and_true, true_and, and_false, false_and, reduceCtorEq, xl_0, xl_1, xl_2, nI_add, nI_1, nm_2, nm_3, nm_4, nm_6, nm_7, nm_8, nm_12, nm_16, na_0, na_2, na_3, na_4, na_5, na_6, na_7, na_8, nm_p, nm_m, nI_clamp]); first | done | assumption | exact h.sc.k (by decide) | exact h.sc.kb (by omega) | exact h.sc.kbt (by omega) | exact h.sc.kbh (by omega) | exact h.sc.kba (by omega) | exact h.sc.kt (by omega) | exact h.sc.ktl (by omega) | exact h.sc.ks (by omega) | rfl) rfl (Nat.le_of_ble_eq_true rfl) dX0_clear_30 (jIr (fun r30 h30 => ?_))
      subst h30
      refine x_istore_n hκ dX0_clear_35 (by rw [hL]; decide) rfl ?_
      refine x_aload_n hκ dX0_clear_36 rfl ?_
      refine c_get hκ kX0 (by (try simp (disch := omega) only [oS_k, oS_o, oS_a, oS_f, oS_n, aS_k, aS_o, aS_a, aS_f, aS_n, fS_k, fS_o, fS_a, fS_f, fS_n, nO_k, nO_o, nO_a, nA_k, nA_o, nA_a, nA_f, nA_n, nF_k, nF_o, nF_a, nF_f, nF_n, Nat.reduceEqDiff, ↓reduceIte, and_true, true_and, and_false, false_and, reduceCtorEq, xl_0, xl_1, xl_2, nI_add, nI_1, nm_2, nm_3, nm_4, nm_6, nm_7, nm_8, nm_12, nm_16, na_0, na_2, na_3, na_4, na_5, na_6, na_7, na_8, nm_p, nm_m, nI_clamp]); first | done | assumption | exact h.sc.k (by decide) | exact h.sc.kb (by omega) | exact h.sc.kbt (by omega) | exact h.sc.kbh (by omega) | exact h.sc.kba (by omega) | exact h.sc.kt (by omega) | exact h.sc.ktl (by omega) | exact h.sc.ks (by omega) | rfl) 7 (by decide) (Or.inl q636) rfl (by (try simp (disch := omega) only [oS_k, oS_o, oS_a, oS_f, oS_n, aS_k, aS_o, aS_a, aS_f, aS_n, fS_k, fS_o, fS_a, fS_f, fS_n, nO_k, nO_o, nO_a, nA_k, nA_o, nA_a, nA_f, nA_n, nF_k, nF_o, nF_a, nF_f, nF_n, Nat.reduceEqDiff, ↓reduceIte, and_true, true_and, and_false, false_and, reduceCtorEq, xl_0, xl_1, xl_2, nI_add, nI_1, nm_2, nm_3, nm_4, nm_6, nm_7, nm_8, nm_12, nm_16, na_0, na_2, na_3, na_4, na_5, na_6, na_7, na_8, nm_p, nm_m, nI_clamp]); first | exact h.sc.o (by decide) rfl | exact h.sc.ob1 (by omega) | exact h.sc.ob2 (by omega) | exact h.sc.ob3 (by omega) | exact h.sc.ot (by omega) | exact h.sc.fb (by omega) | exact h.sc.ft (by omega) (by omega) | exact h.sc.fs (by omega) | exact h.p.1 | exact h.p.2.2.2.2.1 | exact h.p.2.2.2.2.2.1 | exact h.p.2.2.2.2.2.2.1 | exact h.p.2.2.2.2.2.2.2.1 | exact h.p.2.2.2.2.2.2.2.2.1 | exact rfl) dX0_clear_37 ?_
      refine x_iload_n hκ dX0_clear_40 rfl ?_
      refine c_aald (t := 6) hκ (by (try simp (disch := omega) only [oS_k, oS_o, oS_a, oS_f, oS_n, aS_k, aS_o, aS_a, aS_f, aS_n, fS_k, fS_o, fS_a, fS_f, fS_n, nO_k, nO_o, nO_a, nA_k, nA_o, nA_a, nA_f, nA_n, nF_k, nF_o, nF_a, nF_f, nF_n, Nat.reduceEqDiff, ↓reduceIte, and_true, true_and, and_false, false_and, reduceCtorEq, xl_0, xl_1, xl_2, nI_add, nI_1, nm_2, nm_3, nm_4, nm_6, nm_7, nm_8, nm_12, nm_16, na_0, na_2, na_3, na_4, na_5, na_6, na_7, na_8, nm_p, nm_m, nI_clamp]); first | done | assumption | exact h.sc.k (by decide) | exact h.sc.kb (by omega) | exact h.sc.kbt (by omega) | exact h.sc.kbh (by omega) | exact h.sc.kba (by omega) | exact h.sc.kt (by omega) | exact h.sc.ktl (by omega) | exact h.sc.ks (by omega) | rfl) (by decide) (by decide) (by (try simp (disch := omega) only [oS_k, oS_o, oS_a, oS_f, oS_n, aS_k, aS_o, aS_a, aS_f, aS_n, fS_k, fS_o, fS_a, fS_f, fS_n, nO_k, nO_o, nO_a, nA_k, nA_o, nA_a, nA_f, nA_n, nF_k, nF_o, nF_a, nF_f, nF_n, Nat.reduceEqDiff, ↓reduceIte, and_true, true_and, and_false, false_and, reduceCtorEq, xl_0, xl_1, xl_2, nI_add, nI_1, nm_2, nm_3, nm_4, nm_6, nm_7, nm_8, nm_12, nm_16, na_0, na_2, na_3, na_4, na_5, na_6, na_7, na_8, nm_p, nm_m, nI_clamp]); first | exact h.sc.n3 | exact h.sc.n4 | exact h.sc.nbt (by omega) | exact h.sc.nbh (by omega) | exact h.sc.nba (by omega) | exact h.sc.n41 | exact h.sc.n42 | exact h.sc.n43 | exact h.sc.n45 | exact h.sc.n46 | exact h.sc.n48 | exact rfl) (by first | ((with_reducible refine vp_in_nI ?_ ?_) <;> omega) | exact i32_in (by omega) (by omega) | exact i32_in' (by simp only [Int32.toInt_add, Int32.toInt_mul, Int32.toInt_sub, Int32.reduceToInt, Int.bmod_add_bmod, Int.bmod_sub_bmod, Int.add_bmod_bmod, Int.sub_bmod_bmod, Int.bmod_mul_bmod, Int.mul_bmod_bmod]; exact i32_bm (by omega) (by omega)) (by omega) (by omega) | exact i32_in (by decide) (by decide)) (by (try simp (disch := omega) only [oS_k, oS_o, oS_a, oS_f, oS_n, aS_k, aS_o, aS_a, aS_f, aS_n, fS_k, fS_o, fS_a, fS_f, fS_n, nO_k, nO_o, nO_a, nA_k, nA_o, nA_a, nA_f, nA_n, nF_k, nF_o, nF_a, nF_f, nF_n, Nat.reduceEqDiff, ↓reduceIte, and_true, true_and, and_false, false_and, reduceCtorEq, xl_0, xl_1, xl_2, nI_add, nI_1, nm_2, nm_3, nm_4, nm_6, nm_7, nm_8, nm_12, nm_16, na_0, na_2, na_3, na_4, na_5, na_6, na_7, na_8, nm_p, nm_m, nI_clamp]); first | exact h.sc.o (by decide) rfl | exact h.sc.ob1 (by omega) | exact h.sc.ob2 (by omega) | exact h.sc.ob3 (by omega) | exact h.sc.ot (by omega) | exact h.sc.fb (by omega) | exact h.sc.ft (by omega) (by omega) | exact h.sc.fs (by omega) | exact h.p.1 | exact h.p.2.2.2.2.1 | exact h.p.2.2.2.2.2.1 | exact h.p.2.2.2.2.2.2.1 | exact h.p.2.2.2.2.2.2.2.1 | exact h.p.2.2.2.2.2.2.2.2.1 | exact rfl) dX0_clear_41 ?_
      refine c_get hκ kX2 (by (try simp (disch := omega) only [oS_k, oS_o, oS_a, oS_f, oS_n, aS_k, aS_o, aS_a, aS_f, aS_n, fS_k, fS_o, fS_a, fS_f, fS_n, nO_k, nO_o, nO_a, nA_k, nA_o, nA_a, nA_f, nA_n, nF_k, nF_o, nF_a, nF_f, nF_n, Nat.reduceEqDiff, ↓reduceIte, and_true, true_and, and_false, false_and, reduceCtorEq, xl_0, xl_1, xl_2, nI_add, nI_1, nm_2, nm_3, nm_4, nm_6, nm_7, nm_8, nm_12, nm_16, na_0, na_2, na_3, na_4, na_5, na_6, na_7, na_8, nm_p, nm_m, nI_clamp]); first | done | assumption | exact h.sc.k (by decide) | exact h.sc.kb (by omega) | exact h.sc.kbt (by omega) | exact h.sc.kbh (by omega) | exact h.sc.kba (by omega) | exact h.sc.kt (by omega) | exact h.sc.ktl (by omega) | exact h.sc.ks (by omega) | rfl) 1 (by decide) (Or.inr ⟨_, q534⟩) rfl (by (try simp (disch := omega) only [oS_k, oS_o, oS_a, oS_f, oS_n, aS_k, aS_o, aS_a, aS_f, aS_n, fS_k, fS_o, fS_a, fS_f, fS_n, nO_k, nO_o, nO_a, nA_k, nA_o, nA_a, nA_f, nA_n, nF_k, nF_o, nF_a, nF_f, nF_n, Nat.reduceEqDiff, ↓reduceIte, and_true, true_and, and_false, false_and, reduceCtorEq, xl_0, xl_1, xl_2, nI_add, nI_1, nm_2, nm_3, nm_4, nm_6, nm_7, nm_8, nm_12, nm_16, na_0, na_2, na_3, na_4, na_5, na_6, na_7, na_8, nm_p, nm_m, nI_clamp]); first | exact h.sc.o (by decide) rfl | exact h.sc.ob1 (by omega) | exact h.sc.ob2 (by omega) | exact h.sc.ob3 (by omega) | exact h.sc.ot (by omega) | exact h.sc.fb (by omega) | exact h.sc.ft (by omega) (by omega) | exact h.sc.fs (by omega) | exact h.p.1 | exact h.p.2.2.2.2.1 | exact h.p.2.2.2.2.2.1 | exact h.p.2.2.2.2.2.2.1 | exact h.p.2.2.2.2.2.2.2.1 | exact h.p.2.2.2.2.2.2.2.2.1 | exact rfl) dX0_clear_42 ?_
      refine x_iload_n hκ dX0_clear_45 rfl ?_
      refine c_aald (t := 7) hκ (by (try simp (disch := omega) only [oS_k, oS_o, oS_a, oS_f, oS_n, aS_k, aS_o, aS_a, aS_f, aS_n, fS_k, fS_o, fS_a, fS_f, fS_n, nO_k, nO_o, nO_a, nA_k, nA_o, nA_a, nA_f, nA_n, nF_k, nF_o, nF_a, nF_f, nF_n, Nat.reduceEqDiff, ↓reduceIte, and_true, true_and, and_false, false_and, reduceCtorEq, xl_0, xl_1, xl_2, nI_add, nI_1, nm_2, nm_3, nm_4, nm_6, nm_7, nm_8, nm_12, nm_16, na_0, na_2, na_3, na_4, na_5, na_6, na_7, na_8, nm_p, nm_m, nI_clamp]); first | done | assumption | exact h.sc.k (by decide) | exact h.sc.kb (by omega) | exact h.sc.kbt (by omega) | exact h.sc.kbh (by omega) | exact h.sc.kba (by omega) | exact h.sc.kt (by omega) | exact h.sc.ktl (by omega) | exact h.sc.ks (by omega) | rfl) (by decide) (by decide) (by (try simp (disch := omega) only [oS_k, oS_o, oS_a, oS_f, oS_n, aS_k, aS_o, aS_a, aS_f, aS_n, fS_k, fS_o, fS_a, fS_f, fS_n, nO_k, nO_o, nO_a, nA_k, nA_o, nA_a, nA_f, nA_n, nF_k, nF_o, nF_a, nF_f, nF_n, Nat.reduceEqDiff, ↓reduceIte, and_true, true_and, and_false, false_and, reduceCtorEq, xl_0, xl_1, xl_2, nI_add, nI_1, nm_2, nm_3, nm_4, nm_6, nm_7, nm_8, nm_12, nm_16, na_0, na_2, na_3, na_4, na_5, na_6, na_7, na_8, nm_p, nm_m, nI_clamp]); first | exact h.sc.n3 | exact h.sc.n4 | exact h.sc.nbt (by omega) | exact h.sc.nbh (by omega) | exact h.sc.nba (by omega) | exact h.sc.n41 | exact h.sc.n42 | exact h.sc.n43 | exact h.sc.n45 | exact h.sc.n46 | exact h.sc.n48 | exact rfl) (by first | ((with_reducible refine vp_in_nI ?_ ?_) <;> omega) | exact i32_in (by omega) (by omega) | exact i32_in' (by simp only [Int32.toInt_add, Int32.toInt_mul, Int32.toInt_sub, Int32.reduceToInt, Int.bmod_add_bmod, Int.bmod_sub_bmod, Int.add_bmod_bmod, Int.sub_bmod_bmod, Int.bmod_mul_bmod, Int.mul_bmod_bmod]; exact i32_bm (by omega) (by omega)) (by omega) (by omega) | exact i32_in (by decide) (by decide)) (by (try simp (disch := omega) only [oS_k, oS_o, oS_a, oS_f, oS_n, aS_k, aS_o, aS_a, aS_f, aS_n, fS_k, fS_o, fS_a, fS_f, fS_n, nO_k, nO_o, nO_a, nA_k, nA_o, nA_a, nA_f, nA_n, nF_k, nF_o, nF_a, nF_f, nF_n, Nat.reduceEqDiff, ↓reduceIte, and_true, true_and, and_false, false_and, reduceCtorEq, xl_0, xl_1, xl_2, nI_add, nI_1, nm_2, nm_3, nm_4, nm_6, nm_7, nm_8, nm_12, nm_16, na_0, na_2, na_3, na_4, na_5, na_6, na_7, na_8, nm_p, nm_m, nI_clamp]); first | exact h.sc.o (by decide) rfl | exact h.sc.ob1 (by omega) | exact h.sc.ob2 (by omega) | exact h.sc.ob3 (by omega) | exact h.sc.ot (by omega) | exact h.sc.fb (by omega) | exact h.sc.ft (by omega) (by omega) | exact h.sc.fs (by omega) | exact h.p.1 | exact h.p.2.2.2.2.1 | exact h.p.2.2.2.2.2.1 | exact h.p.2.2.2.2.2.2.1 | exact h.p.2.2.2.2.2.2.2.1 | exact h.p.2.2.2.2.2.2.2.2.1 | exact rfl) dX0_clear_46 ?_
      refine c_get hκ kX3 (by (try simp (disch := omega) only [oS_k, oS_o, oS_a, oS_f, oS_n, aS_k, aS_o, aS_a, aS_f, aS_n, fS_k, fS_o, fS_a, fS_f, fS_n, nO_k, nO_o, nO_a, nA_k, nA_o, nA_a, nA_f, nA_n, nF_k, nF_o, nF_a, nF_f, nF_n, Nat.reduceEqDiff, ↓reduceIte, and_true, true_and, and_false, false_and, reduceCtorEq, xl_0, xl_1, xl_2, nI_add, nI_1, nm_2, nm_3, nm_4, nm_6, nm_7, nm_8, nm_12, nm_16, na_0, na_2, na_3, na_4, na_5, na_6, na_7, na_8, nm_p, nm_m, nI_clamp]); first | done | assumption | exact h.sc.k (by decide) | exact h.sc.kb (by omega) | exact h.sc.kbt (by omega) | exact h.sc.kbh (by omega) | exact h.sc.kba (by omega) | exact h.sc.kt (by omega) | exact h.sc.ktl (by omega) | exact h.sc.ks (by omega) | rfl) 0 (by decide) (Or.inr ⟨_, q519⟩) rfl (by (try simp (disch := omega) only [oS_k, oS_o, oS_a, oS_f, oS_n, aS_k, aS_o, aS_a, aS_f, aS_n, fS_k, fS_o, fS_a, fS_f, fS_n, nO_k, nO_o, nO_a, nA_k, nA_o, nA_a, nA_f, nA_n, nF_k, nF_o, nF_a, nF_f, nF_n, Nat.reduceEqDiff, ↓reduceIte, and_true, true_and, and_false, false_and, reduceCtorEq, xl_0, xl_1, xl_2, nI_add, nI_1, nm_2, nm_3, nm_4, nm_6, nm_7, nm_8, nm_12, nm_16, na_0, na_2, na_3, na_4, na_5, na_6, na_7, na_8, nm_p, nm_m, nI_clamp]); first | exact h.sc.o (by decide) rfl | exact h.sc.ob1 (by omega) | exact h.sc.ob2 (by omega) | exact h.sc.ob3 (by omega) | exact h.sc.ot (by omega) | exact h.sc.fb (by omega) | exact h.sc.ft (by omega) (by omega) | exact h.sc.fs (by omega) | exact h.p.1 | exact h.p.2.2.2.2.1 | exact h.p.2.2.2.2.2.1 | exact h.p.2.2.2.2.2.2.1 | exact h.p.2.2.2.2.2.2.2.1 | exact h.p.2.2.2.2.2.2.2.2.1 | exact rfl) dX0_clear_47 ?_
      refine c_callF  hκ (mJ2_clear (h.aT hTT)) (by omega) (by decide) vX0_399_J2 fJ2_clear kJ2 (by (try simp (disch := omega) only [oS_k, oS_o, oS_a, oS_f, oS_n, aS_k, aS_o, aS_a, aS_f, aS_n, fS_k, fS_o, fS_a, fS_f, fS_n, nO_k, nO_o, nO_a, nA_k, nA_o, nA_a, nA_f, nA_n, nF_k, nF_o, nF_a, nF_f, nF_n, Nat.reduceEqDiff, ↓reduceIte, and_true, true_and, and_false, false_and, reduceCtorEq, xl_0, xl_1, xl_2, nI_add, nI_1, nm_2, nm_3, nm_4, nm_6, nm_7, nm_8, nm_12, nm_16, na_0, na_2, na_3, na_4, na_5, na_6, na_7, na_8, nm_p, nm_m, nI_clamp]); first | done | assumption | exact h.sc.k (by decide) | exact h.sc.kb (by omega) | exact h.sc.kbt (by omega) | exact h.sc.kbh (by omega) | exact h.sc.kba (by omega) | exact h.sc.kt (by omega) | exact h.sc.ktl (by omega) | exact h.sc.ks (by omega) | rfl) rfl (Nat.le_of_ble_eq_true rfl) dX0_clear_50 (jV (fun s50 h50 => ?_))
      obtain ⟨g1, g2⟩ := h50
      have hC := h.setT hE (σ' := tA σ 40 (4 * B + T) 0) hTT g2 g1 (Or.inl rfl) (by omega) ((Fr.rf _ _).A rfl _ _) (fun u hu => by rw [tA_2, if_pos rfl]; unfold upd; rfl) (fun u hu hn j hj => ⟨rfl, rfl, rfl⟩) (fun i hi => absurd hi (Nat.not_lt_zero i)) (fun i hi => absurd hi (Nat.not_lt_zero i)) (fun i j hi => absurd hi (Nat.not_lt_zero i)) (fun i hi => absurd hi (Nat.not_lt_zero i))
      refine x_aload_n hκ dX0_clear_55 rfl ?_
      refine x_dup hκ dX0_clear_56 rfl ?_
      refine c_get hκ kX0 (by exact (hC.sc.k (r := 0) (by decide))) 12 (by decide) (Or.inl q641) rfl (by exact hC.p.2.2.2.2.1) dX0_clear_57 ?_
      refine x_iload_n hκ dX0_clear_60 rfl ?_
      refine x_isub hκ dX0_clear_61 ?_
      refine c_put hκ kX0 (by exact (hC.sc.k (r := 0) (by decide))) 12 (by decide) (Or.inl q641) rfl rfl (by rfl) (by rfl) dX0_clear_62 ?_
      refine x_iload_n hκ dX0_clear_65 rfl ?_
      refine c_reti hκ hr dX0_clear_66 ?_
      rw [cl_4bt (by omega) (by omega)]
      refine ⟨(h.t _ hTT).2.1.symm, _, CW.mk (hC.cnt _) ?_⟩
      rw [tA_2, if_pos rfl, l_sum_upd 12 hTT, (h.t _ hTT).2.1, Int32.sub_eq_add_neg, Int32.sub_eq_add_neg, Int32.zero_add]
    · -- X0_clear 11F
      have i11 := h8.f c11
      try simp only [Int32.reduceToInt] at i11
      refine x_iconst (v := (-1)) hκ dX0_clear_14 (by decide) ?_
      refine c_reti hκ hr dX0_clear_15 ?_
      rw [if_neg (by omega)] at h2
      obtain ⟨rfl, rfl⟩ := h2
      exact ⟨rfl, γ, h⟩
