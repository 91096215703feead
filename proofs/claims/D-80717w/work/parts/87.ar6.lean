
/-! the component: all rules run at an arrival -/
theorem und_so {σ τ : TS} {n8 n l b x : Nat} {tr : Int32} (hC : CI σ n8 n l b tr τ) : so (und σ τ) l b x ↔ so σ l b x :=
  so_congr rfl rfl rfl rfl rfl rfl rfl (hC.1 34 rfl).2 (hC.1 57 rfl).2 (hC.1 58 rfl).2
theorem CI.doA {σ : TS} {n8 n l b : Nat} {tr : Int32} (hn8 : n8 ≤ 61) (hn : n ≤ 208) (hl : l < n) (hb : b < 3) (hd : 1 ≤ (σ.2 8 b).toInt) : ∀ (q : List Int32) (τ : TS), (∀ c ∈ q, ∃ k : Nat, k ≤ 10 ∧ c = nI k) → CI σ n8 n l b tr τ → CI σ n8 n l b tr (doA l b tr q τ)
  | [], _, _, h => h
  | c :: t, τ, hc, h => by
    rw [Jvm.Pilot.CSortedPostLaw_law_r3663_2727c6.doA]
    split
    · exact h
    · obtain ⟨k, hk, rfl⟩ := hc c List.mem_cons_self
      exact CI.doA hn8 hn hl hb hd t _ (fun x hx => hc x (List.mem_cons_of_mem _ hx)) (h.acts hn8 hn hl hb hd hk)
theorem arr_run {κ : Kx} {d u w : Nat} (hκ : Ok κ cX0_arrive RX0 d) (hL : kL κ = 8) (hd : 206 ≤ d) {L : Nat → Nat} {γ : Gh} {σ : TS} {c : Int32} {l b n8 n : Nat} {tr : Int32} (hn : n = vN γ) (hl : l < n) (hb : b < 3) (hA : Aw σ n) (hrow : rowOk σ l) (hn8 : n8 ≤ 61) (hn208 : n ≤ 208) (hhad : ∀ j : Nat, σ.2 34 j = 0 ∨ σ.2 34 j = 1) {τe : TS} (hl6 : (vQ γ b).length ≤ 6)
    (J : ∀ (s' : CSt) (z' : Int32) (o5 o6 o7 : Option Value), loOk ([some (.ref (L 0)), some (.ref (vL γ l)), some (.ref (L (5 + b))), some (.int tr), some (.ref (L 44)), o5, o6, o7] : List (Option Value)) 5 = true → RnI (kE κ) L γ σ c τe l b tr z' s' → X κ (sG (kE κ) s') u w 130 ([some (.ref (L 0)), some (.ref (vL γ l)), some (.ref (L (5 + b))), some (.int tr), some (.ref (L 44)), o5, o6, o7] : List (Option Value)) []) :
    ∀ (m k : Nat) (τ : TS) (z : Int32) (s : CSt) (o6 o7 : Option Value), loOk ([some (.ref (L 0)), some (.ref (vL γ l)), some (.ref (L (5 + b))), some (.int tr), some (.ref (L 44)), some (.int (nI k)), o6, o7] : List (Option Value)) 7 = true → k ≤ (vQ γ b).length → (vQ γ b).length - k < m → RnI (kE κ) L γ σ c τ l b tr z s → CI σ n8 n l b tr τ → ((z = 0 ∧ RunS (so σ l b ∘ Int32.toNatClampNeg) l b tr ((vQ γ b).drop k) τ τe) ∨ (¬ z = 0 ∧ τ = τe)) → X κ (sG (kE κ) s) u w 17 ([some (.ref (L 0)), some (.ref (vL γ l)), some (.ref (L (5 + b))), some (.int tr), some (.ref (L 44)), some (.int (nI k)), o6, o7] : List (Option Value)) [] := by
  intro m
  induction m with
  | zero => intro k τ z s o6 o7 _ _ h2; exact absurd h2 (Nat.not_lt_zero _)
  | succ m ih =>
    intro k τ z s o6 o7 lo7 hk hm h hC hz
    obtain ⟨eR, hRu⟩ := h.ru hb
    obtain ⟨u1, u2, l1, l2, a1, a2, e2, g1, g2, g3, g4, g5, g6, g7, g8, g9, g10⟩ := id hRu
    have h0 := h.1
    obtain ⟨b1, b2, b3, b4, b5, b6, b7, b8, b9⟩ := h.2.2
    refine x_iload hκ dX0_arrive_17 rfl ?_
    refine x_aload_n hκ dX0_arrive_19 rfl ?_
    refine c_get hκ kX2 (by (try simp (disch := omega) only [oS_k, oS_o, oS_a, oS_f, oS_n, aS_k, aS_o, aS_a, aS_f, aS_n, fS_k, fS_o, fS_a, fS_f, fS_n, nO_k, nO_o, nO_a, nA_k, nA_o, nA_a, nA_f, nA_n, nF_k, nF_o, nF_a, nF_f, nF_n, Nat.reduceEqDiff, ↓reduceIte, and_true, true_and, and_false, false_and, reduceCtorEq, xl_0, xl_1, xl_2, nI_add, nI_1, nm_2, nm_3, nm_4, nm_6, nm_7, nm_8, nm_12, nm_16, na_0, na_2, na_3, na_4, na_5, na_6, na_7, na_8, nm_p, nm_m, nI_clamp]); first | done | assumption | exact h0.sc.k (by decide) | exact h0.sc.kb (by omega) | exact h0.sc.kbt (by omega) | exact h0.sc.kbh (by omega) | exact h0.sc.kba (by omega) | exact h0.sc.kt (by omega) | exact h0.sc.ktl (by omega) | exact h0.sc.ks (by omega) | rfl) 5 (by decide) (Or.inr ⟨_, q544⟩) rfl (by exact eR) dX0_arrive_20 ?_
    refine c_get hκ kX4 (by exact u2) 0 (by decide) (Or.inr ⟨_, q162⟩) rfl (by exact g1) dX0_arrive_23 ?_
    refine c_callF  hκ (mJ2_size g7) (by omega) (by decide) vX0_100_J2 fJ2_size kJ2 (by exact g7.1) rfl (Nat.le_of_ble_eq_true rfl) dX0_arrive_26 (jIr (fun r26 h26 => ?_))
    subst h26
    refine x_icmp_ge (tgt := 130) hκ dX0_arrive_31 (by decide) (fun c31 => ?_) (fun c31 => ?_)
    · -- X0_arrive 31T
      have i31 := c31
      simp (disch := omega) only [i32_lt, i32_le, i32_eq, Int32.reduceToInt, nI_toInt] at i31
      obtain rfl : k = (vQ γ b).length := by omega
      refine J s z _ _ _ rfl ?_
      rcases hz with ⟨-, hz⟩ | ⟨-, rfl⟩
      · rw [List.drop_length] at hz
        obtain rfl : τe = τ := hz
        exact h
      · exact h
    · -- X0_arrive 31F
      have i31 := c31
      simp (disch := omega) only [i32_lt, i32_le, i32_eq, Int32.reduceToInt, nI_toInt] at i31
      refine x_aload hκ dX0_arrive_34 rfl ?_
      refine c_get hκ kX5 (by (try simp (disch := omega) only [oS_k, oS_o, oS_a, oS_f, oS_n, aS_k, aS_o, aS_a, aS_f, aS_n, fS_k, fS_o, fS_a, fS_f, fS_n, nO_k, nO_o, nO_a, nA_k, nA_o, nA_a, nA_f, nA_n, nF_k, nF_o, nF_a, nF_f, nF_n, Nat.reduceEqDiff, ↓reduceIte, and_true, true_and, and_false, false_and, reduceCtorEq, xl_0, xl_1, xl_2, nI_add, nI_1, nm_2, nm_3, nm_4, nm_6, nm_7, nm_8, nm_12, nm_16, na_0, na_2, na_3, na_4, na_5, na_6, na_7, na_8, nm_p, nm_m, nI_clamp]); first | done | assumption | exact h0.sc.k (by decide) | exact h0.sc.kb (by omega) | exact h0.sc.kbt (by omega) | exact h0.sc.kbh (by omega) | exact h0.sc.kba (by omega) | exact h0.sc.kt (by omega) | exact h0.sc.ktl (by omega) | exact h0.sc.ks (by omega) | rfl) 9 (by decide) (Or.inr ⟨_, q584⟩) rfl (by exact b9) dX0_arrive_36 ?_
      refine x_if_ne (tgt := 130) hκ dX0_arrive_39 (by decide) (fun c39 => ?_) (fun c39 => ?_)
      · -- X0_arrive 39T
        have i39 := c39
        simp (disch := omega) only [i32_lt, i32_le, i32_eq, Int32.reduceToInt, nI_toInt] at i39
        refine J s z _ _ _ rfl ?_
        rcases hz with ⟨hz, -⟩ | ⟨-, rfl⟩
        · exact absurd hz c39
        · exact h
      · -- X0_arrive 39F
        have i39 := c39
        simp (disch := omega) only [i32_lt, i32_le, i32_eq, Int32.reduceToInt, nI_toInt] at i39
        have hkl : k < (vQ γ b).length := by omega
        have hq : (vQ γ b)[k]? = some (vQ γ b)[k] := List.getElem?_eq_getElem hkl
        have hz0 : z = 0 := c39
        subst hz0
        have hrun : RunS (so σ l b ∘ Int32.toNatClampNeg) l b tr ((vQ γ b).drop k) τ τe := by rcases hz with ⟨-, q⟩ | ⟨q, -⟩; exact q; exact absurd rfl q
        rw [List.drop_eq_getElem_cons hkl, RunS] at hrun
        obtain ⟨g, r1, r2⟩ := hrun
        have hru := g9 k _ hq
        obtain ⟨v1, v2, te, c1, c2, w1, w2, w3, w4, w5, ⟨f, w6, w7⟩, -, -, -, -, -, -, wac⟩ := id hru
        have hcodes : ∀ x ∈ (vQ γ b)[k].2, ∃ y : Nat, y ≤ 10 ∧ x = nI y := fun x hx => by
          obtain ⟨i, hi, rfl⟩ := List.mem_iff_getElem.mp hx
          exact (wac i _ (List.getElem?_eq_getElem hi)).rg
        have hT : HoldsAt (kE κ) s te (L 44) (4 + f) (hv (so σ l b ∘ Int32.toNatClampNeg) (vQ γ b)[k].1) := by
          refine TeA.at (D := 4) (fun d' a p x hd' hp ha => ?_) f te _ w7
          have q1 := mX12_holdsA (d := d') h0 (by omega) hb b1 b2 hrow.2.1 hrow.2.2 (fun j => by have e34 : (und σ τ).2 34 = σ.2 34 := (hC.1 34 rfl).2; rw [e34]; exact hhad j) (by omega) ha
          have e := propext (und_so (x := Int32.toNatClampNeg x) hC)
          rw [e] at q1
          exact q1
        refine x_aload_n hκ dX0_arrive_42 rfl ?_
        refine c_get hκ kX2 (by (try simp (disch := omega) only [oS_k, oS_o, oS_a, oS_f, oS_n, aS_k, aS_o, aS_a, aS_f, aS_n, fS_k, fS_o, fS_a, fS_f, fS_n, nO_k, nO_o, nO_a, nA_k, nA_o, nA_a, nA_f, nA_n, nF_k, nF_o, nF_a, nF_f, nF_n, Nat.reduceEqDiff, ↓reduceIte, and_true, true_and, and_false, false_and, reduceCtorEq, xl_0, xl_1, xl_2, nI_add, nI_1, nm_2, nm_3, nm_4, nm_6, nm_7, nm_8, nm_12, nm_16, na_0, na_2, na_3, na_4, na_5, na_6, na_7, na_8, nm_p, nm_m, nI_clamp]); first | done | assumption | exact h0.sc.k (by decide) | exact h0.sc.kb (by omega) | exact h0.sc.kbt (by omega) | exact h0.sc.kbh (by omega) | exact h0.sc.kba (by omega) | exact h0.sc.kt (by omega) | exact h0.sc.ktl (by omega) | exact h0.sc.ks (by omega) | rfl) 5 (by decide) (Or.inr ⟨_, q544⟩) rfl (by exact eR) dX0_arrive_43 ?_
        refine c_get hκ kX4 (by exact u2) 0 (by decide) (Or.inr ⟨_, q162⟩) rfl (by exact g1) dX0_arrive_46 ?_
        refine x_iload hκ dX0_arrive_49 rfl ?_
        refine c_callF  hκ (mJ2_get g7 hkl) (by omega) (by decide) vX0_105_J2 fJ2_get kJ2 (by exact g7.1) rfl (Nat.le_of_ble_eq_true rfl) dX0_arrive_51 (jRr (fun r51 h51 => ?_))
        subst h51
        refine c_cast hκ kX9 (by exact v2) q174 dX0_arrive_56 ?_
        refine x_astore hκ dX0_arrive_59 (by rw [hL]; decide) rfl ?_
        refine x_aload hκ dX0_arrive_61 rfl ?_
        refine c_get hκ kX9 (by exact v2) 0 (by decide) (Or.inr ⟨_, q180⟩) rfl (by exact w1) dX0_arrive_63 ?_
        refine x_aload hκ dX0_arrive_66 rfl ?_
        refine c_test hκ itX0 hT (by omega) (Nat.le_of_ble_eq_true rfl) dX0_arrive_68 ?_
        intro r68 h68
        refine x_if_eq (tgt := 124) hκ dX0_arrive_73 (by decide) (fun c73 => ?_) (fun c73 => ?_)
        · -- X0_arrive 73T
          have i73 := h68.f c73
          try simp only [Int32.reduceToInt] at i73
          skip
          refine x_iincN (y := 1) hκ dX0_arrive_124 (by decide) rfl (by rw [hL]; decide) rfl (by (try simp (disch := omega) only [oS_k, oS_o, oS_a, oS_f, oS_n, aS_k, aS_o, aS_a, aS_f, aS_n, fS_k, fS_o, fS_a, fS_f, fS_n, nO_k, nO_o, nO_a, nA_k, nA_o, nA_a, nA_f, nA_n, nF_k, nF_o, nF_a, nF_f, nF_n, Nat.reduceEqDiff, ↓reduceIte, and_true, true_and, and_false, false_and, reduceCtorEq, xl_0, xl_1, xl_2, nI_add, nI_1, nm_2, nm_3, nm_4, nm_6, nm_7, nm_8, nm_12, nm_16, na_0, na_2, na_3, na_4, na_5, na_6, na_7, na_8, nm_p, nm_m, nI_clamp]); exact rfl) ?_
          refine x_goto (tgt := 17) hκ dX0_arrive_127 (by decide) ?_
          exact ih (k + 1) _ 0 s _ _ rfl (by omega) (by omega) (h.scr g) (hC.F20 g) (Or.inl ⟨rfl, r2 i73⟩)
        · -- X0_arrive 73F
          have i73 := h68.t c73
          try simp only [Int32.reduceToInt] at i73
          refine x_iconst (v := 0) hκ dX0_arrive_76 (by decide) ?_
          refine x_istore hκ dX0_arrive_77 (by rw [hL]; decide) rfl ?_
          refine arr_acts hκ hL (by omega) hn hl hb hA hrow hn8 hn208 (al := gth (allC (vQ γ b)) []) (q := (vQ γ b)[k]) (D := doA l b tr (vQ γ b)[k].2 (tF (tS τ 21 0) 20 g)) (fun s' τ' z' h' => ?_) (fun s' z' i' h' hC' hz' => ?_) (vQ γ b)[k].2.length 0 _ s (by omega) (by rw [List.take_zero]; exact List.not_mem_nil) (h.scr g) (hC.F20 g) (by rw [List.drop_zero])
          · obtain ⟨-, -, -, -, -, -, -, -, -, -, -, -, -, -, -, q9, -⟩ := (h'.ru hb).2
            exact q9 k _ hq
          · have r3 := r1 i73
            refine x_iincN (y := 1) hκ dX0_arrive_124 (by decide) rfl (by rw [hL]; decide) rfl (by (try simp (disch := omega) only [oS_k, oS_o, oS_a, oS_f, oS_n, aS_k, aS_o, aS_a, aS_f, aS_n, fS_k, fS_o, fS_a, fS_f, fS_n, nO_k, nO_o, nO_a, nA_k, nA_o, nA_a, nA_f, nA_n, nF_k, nF_o, nF_a, nF_f, nF_n, Nat.reduceEqDiff, ↓reduceIte, and_true, true_and, and_false, false_and, reduceCtorEq, xl_0, xl_1, xl_2, nI_add, nI_1, nm_2, nm_3, nm_4, nm_6, nm_7, nm_8, nm_12, nm_16, na_0, na_2, na_3, na_4, na_5, na_6, na_7, na_8, nm_p, nm_m, nI_clamp]); exact rfl) ?_
            refine x_goto (tgt := 17) hκ dX0_arrive_127 (by decide) ?_
            refine ih (k + 1) _ z' s' _ _ rfl (by omega) (by omega) h' hC' ?_
            by_cases hst : (10 : Int32) ∈ (vQ γ b)[k].2
            · rw [if_pos hst] at r3 hz'
              exact Or.inr ⟨by rw [hz']; decide, r3.symm⟩
            · rw [if_neg hst] at r3 hz'
              exact Or.inl ⟨hz', r3⟩
