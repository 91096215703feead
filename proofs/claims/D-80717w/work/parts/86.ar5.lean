theorem wX0_247 : GoodIn lw_all (wsV RX0 247 RX5 yX5_act (ws_ yX5_act cX5_act 4 none)) := lw_V q874 q875 q876 q79 q877
theorem aX5_act : yX5_act.cls = RX5 ∧ yX5_act.cls ≠ "java/lang/invoke/MethodHandle" ∧ yX5_act.cls ≠ "java/lang/invoke/VarHandle" ∧ (parseMethodDescriptor yX5_act.desc).map (fun d => d.parameters.length) = some 2 := by decide +kernel
theorem vX12_16_X5 : IW RX12 16 RX5 ⟨"SortedPost$Truths", "isTrue", "(LSortedPost$Atom;)Z"⟩ yX5_isTrue cX5_isTrue 2 (some .boolean) := ⟨lw_F q824 q828 q830 q79 q832, q826, q825, rfl, q831, q829, q827⟩
theorem fX5_isTrue : (⟨"SortedPost$Truths", "isTrue", "(LSortedPost$Atom;)Z"⟩ : MethodName).cls ≠ "java/lang/invoke/MethodHandle" ∧ (⟨"SortedPost$Truths", "isTrue", "(LSortedPost$Atom;)Z"⟩ : MethodName).cls ≠ "java/lang/invoke/VarHandle" ∧ (parseMethodDescriptor (⟨"SortedPost$Truths", "isTrue", "(LSortedPost$Atom;)Z"⟩ : MethodName).desc).map (fun d => d.parameters.length) = some 1 := by decide +kernel
/-! the component: the rules run at an arrival -/
theorem mX12_holdsA {E : gE} {L : Nat → Nat} {γ : Gh} {σ : TS} {c : Int32} {s : CSt} (h : CWc E L γ σ c s) {l b : Nat} (hl : l < vN γ) (hb : b < 3) (h1 : s.2.1 (L 44) 1 = .ref (vL γ l)) (h2 : s.2.1 (L 44) 2 = .ref (L (5 + b))) (hid : 0 ≤ (σ.2 31 l).toInt ∧ (σ.2 31 l).toInt ≤ 10209) (hrf : (σ.2 32 l).toInt ≤ 10209) (hhad : ∀ j : Nat, σ.2 34 j = 0 ∨ σ.2 34 j = 1) {Z : Nat → Prop} {a p d : Nat} {x : Int32} (hd : 3 < d) (ha : AtA Z s a p x) : HM E s yX12_holds cX12_holds a (L 44) d (so σ l b (Int32.toNatClampNeg x)) := by
  refine CMg.of (by decide) (Nat.le_of_ble_eq_true rfl) ?_
  rintro κ rfl hL hκ hr
  refine x_aload_n hκ dX12_holds_0 rfl ?_
  refine x_aload_n hκ dX12_holds_1 rfl ?_
  refine c_callF  hκ (mX5_isTrue (d := 3) h hl hb h1 h2 hid hrf hhad (by decide) ha) (by omega) (by decide) vX12_16_X5 fX5_isTrue kX5 (by exact (h.sc.k (r := 44) (by decide))) rfl (Nat.le_of_ble_eq_true rfl) dX12_holds_2 (jIr (fun r2 h2 => ?_))
  refine c_retz hκ hr dX12_holds_7 h2.b ?_
  exact ⟨h2, rfl⟩
theorem RnI.scr {E : gE} {L : Nat → Nat} {γ : Gh} {σ : TS} {c : Int32} {τ : TS} {l b : Nat} {tr z : Int32} {s : CSt} (h : RnI E L γ σ c τ l b tr z s) (g : Nat → Int32) : RnI E L γ σ c (tF (tS τ 21 0) 20 g) l b tr z s :=
  ⟨h.1.fr (und_fr (((Fr.rf [20, 21] τ).S rfl 0).F rfl g)) (by decide), h.2.1.sg rfl rfl rfl rfl, h.2.2⟩
theorem RnI.z {E : gE} {L : Nat → Nat} {γ : Gh} {σ : TS} {c : Int32} {τ : TS} {l b : Nat} {tr z : Int32} {s : CSt} (h : RnI E L γ σ c τ l b tr z s) : s.2.1 (L 44) 9 = .int z := h.2.2.2.2.2.2.2.2.2.2
theorem acA.rg {x y c : Int32} (h : acA x y c) : ∃ k : Nat, k ≤ 10 ∧ c = nI k := by
  rcases h with ⟨-, h1, h2, -⟩ | ⟨-, rfl⟩ | ⟨-, h1, h2, -⟩ | ⟨-, rfl⟩ | ⟨-, rfl⟩ | ⟨-, rfl⟩ | ⟨-, rfl⟩
  · obtain ⟨K, hK, rfl, -⟩ := i32_nat (x := c) ⟨h1, h2⟩
    exact ⟨K, by omega, rfl⟩
  · exact ⟨0, by omega, rfl⟩
  · obtain ⟨K, hK, rfl, -⟩ := i32_nat (x := c) (m := 6) ⟨by omega, h2⟩
    exact ⟨K, by omega, rfl⟩
  · exact ⟨7, by omega, rfl⟩
  · exact ⟨8, by omega, rfl⟩
  · exact ⟨9, by omega, rfl⟩
  · exact ⟨10, by omega, rfl⟩
theorem RnI.ru {E : gE} {L : Nat → Nat} {γ : Gh} {σ : TS} {c : Int32} {τ : TS} {l b : Nat} {tr z : Int32} {s : CSt} (h : RnI E L γ σ c τ l b tr z s) (hb : b < 3) : s.2.1 (L (5 + b)) 5 = .ref (vR γ b) ∧ RuA E (vZ γ) s (vR γ b) (vQ γ b) (vE γ b) := ⟨(h.1.b b hb).2.1, h.1.r.2 b hb⟩
theorem arr_acts {κ : Kx} {d u w : Nat} (hκ : Ok κ cX0_arrive RX0 d) (hL : kL κ = 8) (hd : 4 ≤ d) {L : Nat → Nat} {γ : Gh} {σ : TS} {c : Int32} {l b n8 n : Nat} {tr : Int32} (hn : n = vN γ) (hl : l < n) (hb : b < 3) (hA : Aw σ n) (hrow : rowOk σ l) (hn8 : n8 ≤ 61) (hn208 : n ≤ 208) {al : List Int32} {ru kk : Nat} {q : List Int32 × List Int32} {D : TS}
    (hru : ∀ (s' : CSt) (τ' : TS) (z' : Int32), RnI (kE κ) L γ σ c τ' l b tr z' s' → RlA (vZ γ) s' al ru q)
    (J : ∀ (s' : CSt) (z' : Int32) (i' : Nat), RnI (kE κ) L γ σ c D l b tr z' s' → CI σ n8 n l b tr D → (z' = if (10 : Int32) ∈ q.2 then 1 else 0) → X κ (sG (kE κ) s') u w 124 ([some (.ref (L 0)), some (.ref (vL γ l)), some (.ref (L (5 + b))), some (.int tr), some (.ref (L 44)), some (.int (nI kk)), some (.ref ru), some (.int (nI i'))] : List (Option Value)) []) :
    ∀ (m i : Nat) (τ : TS) (s : CSt), i + m = q.2.length → (10 : Int32) ∉ q.2.take i → RnI (kE κ) L γ σ c τ l b tr 0 s → CI σ n8 n l b tr τ → doA l b tr (q.2.drop i) τ = D → X κ (sG (kE κ) s) u w 79 ([some (.ref (L 0)), some (.ref (vL γ l)), some (.ref (L (5 + b))), some (.int tr), some (.ref (L 44)), some (.int (nI kk)), some (.ref ru), some (.int (nI i))] : List (Option Value)) [] := by
  intro m
  induction m with
  | zero =>
    intro i τ s hi hno h hC hD
    obtain rfl : i = q.2.length := by omega
    rw [List.drop_length] at hD
    rw [List.take_length] at hno
    obtain rfl : τ = D := hD
    obtain ⟨h1, h2, te, a1, a2, g1, g2, g3, g4, g5, g6, g8, g9, g10, g11, g12, g13, g14⟩ := hru s τ 0 h
    refine x_iload hκ dX0_arrive_79 rfl ?_
    refine x_aload hκ dX0_arrive_81 rfl ?_
    refine c_get hκ kX9 (by exact h2) 3 (by decide) (Or.inr ⟨_, q186⟩) rfl (by exact g4) dX0_arrive_83 ?_
    refine x_icmp_ge (tgt := 124) hκ dX0_arrive_86 (by decide) (fun c86 => ?_) (fun c86 => ?_)
    · -- X0_arrive 86T
      have i86 := c86
      simp (disch := omega) only [i32_lt, i32_le, i32_eq, Int32.reduceToInt, nI_toInt] at i86
      exact J s 0 q.2.length h hC (by rw [if_neg hno])
    · -- X0_arrive 86F
      have i86 := c86
      simp (disch := omega) only [i32_lt, i32_le, i32_eq, Int32.reduceToInt, nI_toInt] at i86
      exact absurd (Int32.le_refl _) c86
  | succ m ih =>
    intro i τ s hi hno h hC hD
    have hil : i < q.2.length := by omega
    have hq : q.2[i]? = some q.2[i] := List.getElem?_eq_getElem hil
    obtain ⟨h1, h2, te, a1, a2, g1, g2, g3, g4, g5, g6, g8, g9, g10, g11, g12, g13, g14⟩ := hru s τ 0 h
    have ha := g14 i _ hq
    rw [List.drop_eq_getElem_cons hil, doA] at hD
    have ht : q.2.take (i + 1) = q.2.take i ++ [q.2[i]] := by rw [List.take_add_one, hq]; rfl
    obtain ⟨K, hK, eK⟩ := ha.rg
    have hC2 : CI σ n8 n l b tr (actsS τ q.2[i] l b tr) := by rw [eK]; exact hC.acts hn8 hn208 hl hb (hA.2.1 b hb).1 hK
    refine x_iload hκ dX0_arrive_79 rfl ?_
    refine x_aload hκ dX0_arrive_81 rfl ?_
    refine c_get hκ kX9 (by exact h2) 3 (by decide) (Or.inr ⟨_, q186⟩) rfl (by exact g4) dX0_arrive_83 ?_
    refine x_icmp_ge (tgt := 124) hκ dX0_arrive_86 (by decide) (fun c86 => ?_) (fun c86 => ?_)
    · -- X0_arrive 86T
      have i86 := c86
      simp (disch := omega) only [i32_lt, i32_le, i32_eq, Int32.reduceToInt, nI_toInt] at i86
      omega
    · -- X0_arrive 86F
      have i86 := c86
      simp (disch := omega) only [i32_lt, i32_le, i32_eq, Int32.reduceToInt, nI_toInt] at i86
      refine x_aload hκ dX0_arrive_89 rfl ?_
      refine c_get hκ kX5 (by (try simp (disch := omega) only [oS_k, oS_o, oS_a, oS_f, oS_n, aS_k, aS_o, aS_a, aS_f, aS_n, fS_k, fS_o, fS_a, fS_f, fS_n, nO_k, nO_o, nO_a, nA_k, nA_o, nA_a, nA_f, nA_n, nF_k, nF_o, nF_a, nF_f, nF_n, Nat.reduceEqDiff, ↓reduceIte, and_true, true_and, and_false, false_and, reduceCtorEq, xl_0, xl_1, xl_2, nI_add, nI_1, nm_2, nm_3, nm_4, nm_6, nm_7, nm_8, nm_12, nm_16, na_0, na_2, na_3, na_4, na_5, na_6, na_7, na_8, nm_p, nm_m, nI_clamp]); first | done | assumption | exact h.1.sc.k (by decide) | exact h.1.sc.kb (by omega) | exact h.1.sc.kbt (by omega) | exact h.1.sc.kbh (by omega) | exact h.1.sc.kba (by omega) | exact h.1.sc.kt (by omega) | exact h.1.sc.ktl (by omega) | exact h.1.sc.ks (by omega) | rfl) 9 (by decide) (Or.inr ⟨_, q584⟩) rfl (by exact h.z) dX0_arrive_91 ?_
      refine x_if_ne (tgt := 124) hκ dX0_arrive_94 (by decide) (fun c94 => ?_) (fun c94 => ?_)
      · -- X0_arrive 94T
        have i94 := c94
        simp (disch := omega) only [i32_lt, i32_le, i32_eq, Int32.reduceToInt, nI_toInt] at i94
        exact absurd rfl c94
      · -- X0_arrive 94F
        have i94 := c94
        simp (disch := omega) only [i32_lt, i32_le, i32_eq, Int32.reduceToInt, nI_toInt] at i94
        refine x_aload hκ dX0_arrive_97 rfl ?_
        refine x_aload hκ dX0_arrive_99 rfl ?_
        refine c_get hκ kX9 (by exact h2) 1 (by decide) (Or.inr ⟨_, q182⟩) rfl (by exact g2) dX0_arrive_101 ?_
        refine x_iload hκ dX0_arrive_104 rfl ?_
        refine c_iald hκ (by exact g10) (by exact g11) (by first | ((with_reducible refine vp_in_nI ?_ ?_) <;> omega) | exact i32_in (by omega) (by omega) | exact i32_in' (by simp only [Int32.toInt_add, Int32.toInt_mul, Int32.toInt_sub, Int32.reduceToInt, Int.bmod_add_bmod, Int.bmod_sub_bmod, Int.add_bmod_bmod, Int.sub_bmod_bmod, Int.bmod_mul_bmod, Int.mul_bmod_bmod]; exact i32_bm (by omega) (by omega)) (by omega) (by omega) | exact i32_in (by decide) (by decide)) (by exact (congrArg (s.2.2.1 a1) (nI_clamp (by omega)))) dX0_arrive_106 ?_
        refine x_aload hκ dX0_arrive_107 rfl ?_
        refine c_get hκ kX9 (by exact h2) 2 (by decide) (Or.inr ⟨_, q184⟩) rfl (by exact g3) dX0_arrive_109 ?_
        refine x_iload hκ dX0_arrive_112 rfl ?_
        refine c_iald hκ (by exact g12) (by exact g13) (by first | ((with_reducible refine vp_in_nI ?_ ?_) <;> omega) | exact i32_in (by omega) (by omega) | exact i32_in' (by simp only [Int32.toInt_add, Int32.toInt_mul, Int32.toInt_sub, Int32.reduceToInt, Int.bmod_add_bmod, Int.bmod_sub_bmod, Int.add_bmod_bmod, Int.sub_bmod_bmod, Int.bmod_mul_bmod, Int.mul_bmod_bmod]; exact i32_bm (by omega) (by omega)) (by omega) (by omega) | exact i32_in (by decide) (by decide)) (by exact (congrArg (s.2.2.1 a2) (nI_clamp (by omega)))) dX0_arrive_114 ?_
        refine c_callV  hκ (mX5_act h hC hn hl hb hA hrow hn8 ha) (by omega) (by decide) wX0_247 aX5_act kX5 (by (try simp (disch := omega) only [oS_k, oS_o, oS_a, oS_f, oS_n, aS_k, aS_o, aS_a, aS_f, aS_n, fS_k, fS_o, fS_a, fS_f, fS_n, nO_k, nO_o, nO_a, nA_k, nA_o, nA_a, nA_f, nA_n, nF_k, nF_o, nF_a, nF_f, nF_n, Nat.reduceEqDiff, ↓reduceIte, and_true, true_and, and_false, false_and, reduceCtorEq, xl_0, xl_1, xl_2, nI_add, nI_1, nm_2, nm_3, nm_4, nm_6, nm_7, nm_8, nm_12, nm_16, na_0, na_2, na_3, na_4, na_5, na_6, na_7, na_8, nm_p, nm_m, nI_clamp]); first | done | assumption | exact h.1.sc.k (by decide) | exact h.1.sc.kb (by omega) | exact h.1.sc.kbt (by omega) | exact h.1.sc.kbh (by omega) | exact h.1.sc.kba (by omega) | exact h.1.sc.kt (by omega) | exact h.1.sc.ktl (by omega) | exact h.1.sc.ks (by omega) | rfl) rfl (Nat.le_of_ble_eq_true rfl) dX0_arrive_115 (jV (fun s115 h115 => ?_))
        refine x_iincN (y := 1) hκ dX0_arrive_118 (by decide) rfl (by rw [hL]; decide) rfl (by (try simp (disch := omega) only [oS_k, oS_o, oS_a, oS_f, oS_n, aS_k, aS_o, aS_a, aS_f, aS_n, fS_k, fS_o, fS_a, fS_f, fS_n, nO_k, nO_o, nO_a, nA_k, nA_o, nA_a, nA_f, nA_n, nF_k, nF_o, nF_a, nF_f, nF_n, Nat.reduceEqDiff, ↓reduceIte, and_true, true_and, and_false, false_and, reduceCtorEq, xl_0, xl_1, xl_2, nI_add, nI_1, nm_2, nm_3, nm_4, nm_6, nm_7, nm_8, nm_12, nm_16, na_0, na_2, na_3, na_4, na_5, na_6, na_7, na_8, nm_p, nm_m, nI_clamp]); first | exact h.1.sc.o (by decide) rfl | exact h.1.sc.ob1 (by omega) | exact h.1.sc.ob2 (by omega) | exact h.1.sc.ob3 (by omega) | exact h.1.sc.ot (by omega) | exact h.1.sc.fb (by omega) | exact h.1.sc.ft (by omega) (by omega) | exact h.1.sc.fs (by omega) | exact h.1.p.1 | exact h.1.p.2.2.2.2.1 | exact h.1.p.2.2.2.2.2.1 | exact h.1.p.2.2.2.2.2.2.1 | exact h.1.p.2.2.2.2.2.2.2.1 | exact h.1.p.2.2.2.2.2.2.2.2.1 | exact rfl) ?_
        refine x_goto (tgt := 79) hκ dX0_arrive_121 (by decide) ?_
        by_cases e10 : q.2[i] = 10
        · rw [if_pos e10] at hD
          obtain rfl : τ = D := hD
          rw [if_pos e10] at h115
          have eact : actsS τ q.2[i] l b tr = τ := by rw [e10]; unfold actsS; rw [if_neg (by decide), if_neg (by decide), if_neg (by decide), if_neg (by decide), if_neg (by decide)]
          rw [eact] at h115
          obtain ⟨h1', h2', te', a1', a2', g1', g2', g3', g4', -⟩ := hru s115 τ 1 h115
          have hJ := J s115 1 (i + 1) h115 hC (by rw [if_pos (by rw [← e10]; exact List.getElem_mem hil)])
          refine x_iload hκ dX0_arrive_79 rfl ?_
          refine x_aload hκ dX0_arrive_81 rfl ?_
          refine c_get hκ kX9 (by exact h2') 3 (by decide) (Or.inr ⟨_, q186⟩) rfl (by exact g4') dX0_arrive_83 ?_
          refine x_icmp_ge (tgt := 124) hκ dX0_arrive_86 (by decide) (fun c86 => ?_) (fun c86 => ?_)
          · -- X0_arrive 86T
            have i86 := c86
            simp (disch := omega) only [i32_lt, i32_le, i32_eq, Int32.reduceToInt, nI_toInt] at i86
            exact hJ
          · -- X0_arrive 86F
            have i86 := c86
            simp (disch := omega) only [i32_lt, i32_le, i32_eq, Int32.reduceToInt, nI_toInt] at i86
            refine x_aload hκ dX0_arrive_89 rfl ?_
            refine c_get hκ kX5 (by (try simp (disch := omega) only [oS_k, oS_o, oS_a, oS_f, oS_n, aS_k, aS_o, aS_a, aS_f, aS_n, fS_k, fS_o, fS_a, fS_f, fS_n, nO_k, nO_o, nO_a, nA_k, nA_o, nA_a, nA_f, nA_n, nF_k, nF_o, nF_a, nF_f, nF_n, Nat.reduceEqDiff, ↓reduceIte, and_true, true_and, and_false, false_and, reduceCtorEq, xl_0, xl_1, xl_2, nI_add, nI_1, nm_2, nm_3, nm_4, nm_6, nm_7, nm_8, nm_12, nm_16, na_0, na_2, na_3, na_4, na_5, na_6, na_7, na_8, nm_p, nm_m, nI_clamp]); first | done | assumption | exact h115.1.sc.k (by decide) | exact h115.1.sc.kb (by omega) | exact h115.1.sc.kbt (by omega) | exact h115.1.sc.kbh (by omega) | exact h115.1.sc.kba (by omega) | exact h115.1.sc.kt (by omega) | exact h115.1.sc.ktl (by omega) | exact h115.1.sc.ks (by omega) | rfl) 9 (by decide) (Or.inr ⟨_, q584⟩) rfl (by exact h115.z) dX0_arrive_91 ?_
            refine x_if_ne (tgt := 124) hκ dX0_arrive_94 (by decide) (fun c94 => ?_) (fun c94 => ?_)
            · -- X0_arrive 94T
              have i94 := c94
              simp (disch := omega) only [i32_lt, i32_le, i32_eq, Int32.reduceToInt, nI_toInt] at i94
              exact hJ
            · -- X0_arrive 94F
              have i94 := c94
              simp (disch := omega) only [i32_lt, i32_le, i32_eq, Int32.reduceToInt, nI_toInt] at i94
              exact absurd c94 (by decide)
        · rw [if_neg e10] at hD
          rw [if_neg e10] at h115
          exact ih (i + 1) _ s115 (by omega) (by rw [ht, List.mem_append, List.mem_singleton]; rintro (z1 | z1); exact hno z1; exact e10 z1.symm) h115 hC2 hD
