theorem wX8_180 : GoodIn lw_all (wsV RX8 180 RX8 yX8_expression (ws_ yX8_expression cX8_expression 4 none)) := lw_V q1366 q1368 qs34 q82 q1369
theorem aX8_expression : yX8_expression.cls = RX8 ∧ yX8_expression.cls ≠ "java/lang/invoke/MethodHandle" ∧ yX8_expression.cls ≠ "java/lang/invoke/VarHandle" ∧ (parseMethodDescriptor yX8_expression.desc).map (fun d => d.parameters.length) = some 0 := by decide +kernel
theorem wX8_183 : GoodIn lw_all (wsV RX8 183 RX8 yX8_act (ws_ yX8_act cX8_act 4 none)) := lw_V q1403 q1405 qs42 q82 q1406
theorem aX8_act : yX8_act.cls = RX8 ∧ yX8_act.cls ≠ "java/lang/invoke/MethodHandle" ∧ yX8_act.cls ≠ "java/lang/invoke/VarHandle" ∧ (parseMethodDescriptor yX8_act.desc).map (fun d => d.parameters.length) = some 1 := by decide +kernel
/-! the reference: a rule -/
abbrev ruS : List Nat := [9, 10, 11, 12, 13, 14, 15, 16, 17, 18, 19]
def RuF (σ : TS) (r p : Nat) (σ' : TS) : Prop := Fr ruS σ σ' ∧ σ'.1 10 = nI p ∧ σ'.1 19 = nI (r + 1) ∧ ∃ b, b ≤ 400 ∧ σ'.1 9 = nI b
def RuP (σ : TS) (N r : Nat) (o : List Int32) (a' : Nat) (o' ac : List Int32) (σ' : TS) : Prop := Fr ruS σ σ' ∧ σ'.1 10 = -1 ∧ (∃ b, σ'.1 9 = nI b ∧ b ≤ 91 ∧ o'.length ≤ b ∧ skp (σ.2 0) N b = a') ∧ σ'.1 15 = nI o'.length ∧ AL (σ'.2 14) 0 o' ∧ σ'.1 19 = nI (r + 1) ∧ σ'.2 16 = upd (upd (σ.2 16) r (nI o.length)) (r + 1) (nI o'.length) ∧ σ'.2 18 = upd (σ.2 18) r (nI ac.length) ∧ AL (σ'.2 17) (4 * r) ac ∧ ac.length ≤ 4 ∧ ∀ i, i < 4 * r → σ'.2 17 i = σ.2 17 i
theorem updupd {f : Nat → Int32} {k : Nat} {v w : Int32} : upd (upd f k v) k w = upd f k w := by
  funext j
  unfold upd
  split <;> rfl
theorem psS_ru : ∀ k, ruS.contains k = false → psS.contains k = false := by
  intro k hk
  simp only [ruS, psS, List.contains_cons, List.contains_nil, Bool.or_false, Bool.or_eq_false_iff] at hk ⊢
  simp only [hk, and_self]
theorem raS_ru : ∀ k, ruS.contains k = false → raS.contains k = false := by
  intro k hk
  simp only [ruS, raS, List.contains_cons, List.contains_nil, Bool.or_false, Bool.or_eq_false_iff] at hk ⊢
  simp only [hk, and_self]
theorem act1_p {T : Nat → Int32} {N a p : Nat} (h : act1 T N a = .inl p) : p ≤ a + 1 ∨ p ≤ N + 1 := by
  have hb := skp_b (T := T) (N := N) (a := a)
  cases hk : acd (cur T N (skp T N a)) with
  | none => rw [act1_n hk] at h; cases h; omega
  | some q =>
    obtain ⟨k, m⟩ := q
    cases m with
    | none => rw [act1_0 hk] at h; cases h
    | some m =>
      have hb2 := skp_b (T := T) (N := N) (a := skp T N a + 1)
      cases hn : nm T N (skp T N a + 1) m with
      | inr q => rw [act1_r (e := q.1) (v := q.2) hk hn] at h; cases h
      | inl p' =>
        rw [act1_l hk hn] at h
        cases h
        unfold nm at hn
        split at hn
        · split at hn
          · cases hn; omega
          · cases hn
        · cases hn; omega
theorem rl_l {T : Nat → Int32} {N a a1 p : Nat} {o o1 : List Int32} (h : ex T N a o = .inr (a1, o1)) (h2 : cur T N (skp T N a1) = 58) (h3 : alF T N 4 (skp T N a1 + 1) [] = .inl p) : rl T N a o = .inl p := by unfold rl; rw [h]; simp only [h2, h3, if_true]
theorem rl_r {T : Nat → Int32} {N a a1 b : Nat} {o o1 ac : List Int32} (h : ex T N a o = .inr (a1, o1)) (h2 : cur T N (skp T N a1) = 58) (h3 : alF T N 4 (skp T N a1 + 1) [] = .inr (b, ac)) : rl T N a o = .inr (b, o1, ac) := by unfold rl; rw [h]; simp only [h2, h3, if_true]
theorem rl_x {T : Nat → Int32} {N a p : Nat} {o : List Int32} (h : ex T N a o = .inl p) : rl T N a o = .inl p := by unfold rl; rw [h]
theorem rl_c {T : Nat → Int32} {N a a1 : Nat} {o o1 : List Int32} (h : ex T N a o = .inr (a1, o1)) (h2 : ¬ cur T N (skp T N a1) = 58) : rl T N a o = .inl (skp T N a1) := by unfold rl; rw [h]; simp only [h2, if_false]
theorem alF_l {T : Nat → Int32} {N f a p : Nat} {acc : List Int32} (h : act1 T N a = .inl p) : alF T N (f + 1) a acc = .inl p := by rw [alF, h]
theorem alF_m {T : Nat → Int32} {N f a e : Nat} {x : Int32} {acc : List Int32} (h : act1 T N a = .inr (e, x)) (h2 : acc.length + 1 < 4 ∧ cur T N (skp T N e) = 44) : alF T N (f + 1) a acc = alF T N f (skp T N e + 1) (acc ++ [x]) := by rw [alF, h]; simp only [h2, and_self, if_true]
theorem alF_e {T : Nat → Int32} {N f a e : Nat} {x : Int32} {acc : List Int32} (h : act1 T N a = .inr (e, x)) (h2 : ¬ (acc.length + 1 < 4 ∧ cur T N (skp T N e) = 44)) : alF T N (f + 1) a acc = .inr (skp T N e, acc ++ [x]) := by rw [alF, h]; simp only [h2, if_false]
theorem mx_p {T : Nat → Int32} {N : Nat} (hN : N ≤ 90) : ∀ (f a : Nat) (w : Bool) (W : List Nat) (o : List Int32) (p : Nat), a ≤ 91 → mx T N f a w W o = .inl p → p ≤ 300
  | 0, a, w, W, o, p, ha, h => by rw [mx] at h; cases h; omega
  | f + 1, a, true, W, o, p, ha, h => by
    have hb := skp_b (T := T) (N := N) (a := a)
    by_cases hc : cur T N (skp T N a) = 33 ∨ cur T N (skp T N a) = 40
    · have hlt : skp T N a < N := cur_lt (T := T) (fun z => by rw [z] at hc; rcases hc with y | y <;> exact absurd y (by decide))
      rw [mx_open hc] at h
      split at h
      · cases h; omega
      · exact mx_p hN f _ _ _ _ _ (by omega) h
    · cases hat : atm T N (skp T N a) (cur T N (skp T N a)) with
      | none => rw [mx_none hc hat] at h; cases h; omega
      | some z =>
        cases z with
        | inl p' => rw [mx_bad hc hat] at h; cases h; have := atm_p hat; omega
        | inr q =>
          have hp := atm_pos (e := q.1) (x := q.2) hat
          have hlt := atm_lt hat
          rw [mx_atom hc hat] at h
          exact mx_p hN f _ _ _ _ _ (by omega) h
  | f + 1, a, false, W, o, p, ha, h => by
    have hb := skp_b (T := T) (N := N) (a := a)
    by_cases hc : cur T N (skp T N a) = 38 ∨ cur T N (skp T N a) = 124
    · have hlt : skp T N a < N := cur_lt (T := T) (fun z => by rw [z] at hc; rcases hc with y | y <;> exact absurd y (by decide))
      rw [mx_join hc] at h
      exact mx_p hN f _ _ _ _ _ (by omega) h
    · by_cases h41 : cur T N (skp T N a) = 41
      · have hlt : skp T N a < N := cur_lt (T := T) (fun z => by rw [z] at h41; exact absurd h41 (by decide))
        cases hv : (stl 1 W o).1 with
        | nil => rw [mx_cl0 hc h41 hv] at h; cases h
        | cons x V =>
          rw [mx_cl1 hc h41 hv] at h
          exact mx_p hN f _ _ _ _ _ (by omega) h
      · rw [mx_end hc h41] at h; cases h
theorem ex_b {T : Nat → Int32} {N a p : Nat} {o : List Int32} (hN : N ≤ 90) (ha : a ≤ 91) (h : ex T N a o = .inl p) : p ≤ 300 := by
  unfold ex at h
  cases hm : mx T N 100 a true [] o with
  | inl q => rw [hm] at h; cases h; exact mx_p hN _ _ _ _ _ _ ha hm
  | inr q =>
    obtain ⟨b, W, o2⟩ := q
    rw [hm] at h
    simp only at h
    split at h
    · cases h
    · cases h
      have : ∀ (f a : Nat) (w : Bool) (W : List Nat) (o : List Int32) (a1 : Nat) (W1 : List Nat) (o1 : List Int32), a ≤ 91 → mx T N f a w W o = .inr (a1, W1, o1) → a1 ≤ 91 := by
        intro f
        induction f with
        | zero => intro a w W o a1 W1 o1 _ h; rw [mx] at h; cases h
        | succ f ih =>
          intro a w W o a1 W1 o1 ha h
          have hb := skp_b (T := T) (N := N) (a := a)
          cases w with
          | true =>
            by_cases hc : cur T N (skp T N a) = 33 ∨ cur T N (skp T N a) = 40
            · have hlt : skp T N a < N := cur_lt (T := T) (fun z => by rw [z] at hc; rcases hc with y | y <;> exact absurd y (by decide))
              rw [mx_open hc] at h
              split at h
              · cases h
              · exact ih _ _ _ _ _ _ _ (by omega) h
            · cases hat : atm T N (skp T N a) (cur T N (skp T N a)) with
              | none => rw [mx_none hc hat] at h; cases h
              | some z =>
                cases z with
                | inl p' => rw [mx_bad hc hat] at h; cases h
                | inr q =>
                  have hp := atm_pos (e := q.1) (x := q.2) hat
                  have hlt := atm_lt hat
                  rw [mx_atom hc hat] at h
                  exact ih _ _ _ _ _ _ _ (by omega) h
          | false =>
            by_cases hc : cur T N (skp T N a) = 38 ∨ cur T N (skp T N a) = 124
            · have hlt : skp T N a < N := cur_lt (T := T) (fun z => by rw [z] at hc; rcases hc with y | y <;> exact absurd y (by decide))
              rw [mx_join hc] at h
              exact ih _ _ _ _ _ _ _ (by omega) h
            · by_cases h41 : cur T N (skp T N a) = 41
              · have hlt : skp T N a < N := cur_lt (T := T) (fun z => by rw [z] at h41; exact absurd h41 (by decide))
                cases hv : (stl 1 W o).1 with
                | nil => rw [mx_cl0 hc h41 hv] at h; cases h; omega
                | cons x V =>
                  rw [mx_cl1 hc h41 hv] at h
                  exact ih _ _ _ _ _ _ _ (by omega) h
              · rw [mx_end hc h41] at h; cases h; omega
      have := this _ _ _ _ _ _ _ _ ha hm
      omega
theorem mX8_rule {E : gE} {θ : TA} (hθ : tOk θ) {σ : TS} {a N r : Nat} {o : List Int32} (h9 : σ.1 9 = nI a) (hT : σ.1 1 = nI N) (hN : N ≤ 90) (h10 : σ.1 10 = -1) (h19 : σ.1 19 = nI r) (hr6 : r < 6) (h15 : σ.1 15 = nI o.length) (hA : AL (σ.2 14) 0 o) (hoa : o.length ≤ a) (ha : a ≤ 91) : TMv E θ σ yX8_rule cX8_rule 3 4 [] (fun σ' => (∀ p, rl (σ.2 0) N a o = .inl p → RuF σ r p σ') ∧ ∀ a' o' ac, rl (σ.2 0) N a o = .inr (a', o', ac) → RuP σ N r o a' o' ac σ') := by
  refine TMv.of (by decide) (Nat.le_of_ble_eq_true rfl) ?_
  rintro κ rfl hL hκ hr
  have J135 : ∀ (σe : TS) (z2 : Int32), σe.1 19 = nI r → ((∀ p, rl (σ.2 0) N a o = .inl p → RuF σ r p (tA (tS σe 19 (nI (r + 1))) 16 (r + 1) (σe.1 15))) ∧ ∀ a' o' ac, rl (σ.2 0) N a o = .inr (a', o', ac) → RuP σ N r o a' o' ac (tA (tS σe 19 (nI (r + 1))) 16 (r + 1) (σe.1 15))) → X κ (tG (kE κ) θ σe) 0 0 135 [some (.ref θ.1), some (.int (nI r)), some (.int z2)] [] := by
    intro σe z2 e19 hend
    refine x_aload_n hκ dX8_rule_135 rfl ?_
    refine x_dup hκ dX8_rule_136 rfl ?_
    refine t_get hκ fl8_19 (by decide) (by decide) rfl (by (try simp (disch := omega) only [tS_1, tS_2, tA_1, tA_2, tF_1, tF_2, xl_0, xl_1, xl_2, Nat.reduceEqDiff, ↓reduceIte, nI_add, nI_1, nm_2, nm_3, nm_4, nm_6, nm_7, nm_8, nm_12, nm_16, nm_24, nm_40, nm_180, nm_300, nm_10210, na_0, na_2, na_3, na_4, na_5, na_6, na_7, na_8, nm_p, nm_m, nI_clamp, e19]); exact rfl) dX8_rule_137 ?_
    refine x_iconst (v := 1) hκ dX8_rule_140 (by decide) ?_
    refine x_iaddN hκ (by (try simp (disch := omega) only [tS_1, tS_2, tA_1, tA_2, tF_1, tF_2, xl_0, xl_1, xl_2, Nat.reduceEqDiff, ↓reduceIte, nI_add, nI_1, nm_2, nm_3, nm_4, nm_6, nm_7, nm_8, nm_12, nm_16, nm_24, nm_40, nm_180, nm_300, nm_10210, na_0, na_2, na_3, na_4, na_5, na_6, na_7, na_8, nm_p, nm_m, nI_clamp, e19]); exact rfl) dX8_rule_141 ?_
    refine t_put hκ fl8_19 (by decide) (by decide) rfl rfl rfl dX8_rule_142 ?_
    refine x_aload_n hκ dX8_rule_145 rfl ?_
    refine t_getA hκ fl8_16 (by decide) (by decide) rfl dX8_rule_146 ?_
    refine x_aload_n hκ dX8_rule_149 rfl ?_
    refine t_get hκ fl8_19 (by decide) (by decide) rfl (by (try simp (disch := omega) only [tS_1, tS_2, tA_1, tA_2, tF_1, tF_2, xl_0, xl_1, xl_2, Nat.reduceEqDiff, ↓reduceIte, nI_add, nI_1, nm_2, nm_3, nm_4, nm_6, nm_7, nm_8, nm_12, nm_16, nm_24, nm_40, nm_180, nm_300, nm_10210, na_0, na_2, na_3, na_4, na_5, na_6, na_7, na_8, nm_p, nm_m, nI_clamp, e19]); exact rfl) dX8_rule_150 ?_
    refine x_aload_n hκ dX8_rule_153 rfl ?_
    refine t_get hκ fl8_15 (by decide) (by decide) rfl (by (try simp (disch := omega) only [tS_1, tS_2, tA_1, tA_2, tF_1, tF_2, xl_0, xl_1, xl_2, Nat.reduceEqDiff, ↓reduceIte, nI_add, nI_1, nm_2, nm_3, nm_4, nm_6, nm_7, nm_8, nm_12, nm_16, nm_24, nm_40, nm_180, nm_300, nm_10210, na_0, na_2, na_3, na_4, na_5, na_6, na_7, na_8, nm_p, nm_m, nI_clamp, e19]); exact rfl) dX8_rule_154 ?_
    refine t_iast (n := 7) hκ hθ (by decide) rfl rfl (by first | ((with_reducible refine vp_in_nI ?_ ?_) <;> omega) | exact i32_in (by omega) (by omega) | exact i32_in' (by simp only [Int32.toInt_add, Int32.toInt_mul, Int32.toInt_sub, Int32.reduceToInt, Int.bmod_add_bmod, Int.bmod_sub_bmod, Int.add_bmod_bmod, Int.sub_bmod_bmod, Int.bmod_mul_bmod, Int.mul_bmod_bmod]; exact i32_bm (by omega) (by omega)) (by omega) (by omega) | exact i32_in (by decide) (by decide)) (by (try simp (disch := omega) only [tS_1, tS_2, tA_1, tA_2, tF_1, tF_2, xl_0, xl_1, xl_2, Nat.reduceEqDiff, ↓reduceIte, nI_add, nI_1, nm_2, nm_3, nm_4, nm_6, nm_7, nm_8, nm_12, nm_16, nm_24, nm_40, nm_180, nm_300, nm_10210, na_0, na_2, na_3, na_4, na_5, na_6, na_7, na_8, nm_p, nm_m, nI_clamp, e19]); exact rfl) dX8_rule_157 ?_
    refine t_retv hκ hr dX8_rule_158 ?_
    exact hend
  have endF : ∀ (p b : Nat) (σe : TS), p ≤ 300 → rl (σ.2 0) N a o = .inl p → Fr ruS σ σe → σe.1 10 = nI p → b ≤ 400 → σe.1 9 = nI b → ((∀ p, rl (σ.2 0) N a o = .inl p → RuF σ r p (tA (tS σe 19 (nI (r + 1))) 16 (r + 1) (σe.1 15))) ∧ ∀ a' o' ac, rl (σ.2 0) N a o = .inr (a', o', ac) → RuP σ N r o a' o' ac (tA (tS σe 19 (nI (r + 1))) 16 (r + 1) (σe.1 15))) := by
    intro p b σe hp hrl hFr e10 hb e9
    refine ⟨fun p' hp' => ?_, fun a' o' ac hp' => (by rw [hrl] at hp'; cases hp')⟩
    rw [hrl] at hp'
    cases hp'
    exact ⟨(hFr.S rfl _).A rfl _ _, e10, rfl, b, hb, e9⟩
  have J43f : ∀ (p b : Nat) (σf : TS) (o2 : Option Value), p ≤ 300 → b ≤ 300 → rl (σ.2 0) N a o = .inl p → Fr ruS σ σf → σf.1 10 = nI p → σf.1 9 = nI b → σf.1 19 = nI r → X κ (tG (kE κ) θ σf) 0 0 43 [some (.ref θ.1), some (.int (nI r)), o2] [] := by
    intro p b σf o2 hp hb hrl hFr e10 e9 e19
    refine x_aload_n hκ dX8_rule_43 rfl ?_
    refine x_dup hκ dX8_rule_44 rfl ?_
    refine t_get hκ fl8_9 (by decide) (by decide) rfl (by (try simp (disch := omega) only [tS_1, tS_2, tA_1, tA_2, tF_1, tF_2, xl_0, xl_1, xl_2, Nat.reduceEqDiff, ↓reduceIte, nI_add, nI_1, nm_2, nm_3, nm_4, nm_6, nm_7, nm_8, nm_12, nm_16, nm_24, nm_40, nm_180, nm_300, nm_10210, na_0, na_2, na_3, na_4, na_5, na_6, na_7, na_8, nm_p, nm_m, nI_clamp, e10, e9]); exact rfl) dX8_rule_45 ?_
    refine x_iconst (v := 1) hκ dX8_rule_48 (by decide) ?_
    refine x_iaddN hκ (by (try simp (disch := omega) only [tS_1, tS_2, tA_1, tA_2, tF_1, tF_2, xl_0, xl_1, xl_2, Nat.reduceEqDiff, ↓reduceIte, nI_add, nI_1, nm_2, nm_3, nm_4, nm_6, nm_7, nm_8, nm_12, nm_16, nm_24, nm_40, nm_180, nm_300, nm_10210, na_0, na_2, na_3, na_4, na_5, na_6, na_7, na_8, nm_p, nm_m, nI_clamp, e10, e9]); exact rfl) dX8_rule_49 ?_
    refine t_put hκ fl8_9 (by decide) (by decide) rfl rfl rfl dX8_rule_50 ?_
    refine x_aload_n hκ dX8_rule_53 rfl ?_
    refine t_getA hκ fl8_18 (by decide) (by decide) rfl dX8_rule_54 ?_
    refine x_iload_n hκ dX8_rule_57 rfl ?_
    refine x_iconst (v := 0) hκ dX8_rule_58 (by decide) ?_
    refine t_iast (n := 6) hκ hθ (by decide) rfl rfl (by first | ((with_reducible refine vp_in_nI ?_ ?_) <;> omega) | exact i32_in (by omega) (by omega) | exact i32_in' (by simp only [Int32.toInt_add, Int32.toInt_mul, Int32.toInt_sub, Int32.reduceToInt, Int.bmod_add_bmod, Int.bmod_sub_bmod, Int.add_bmod_bmod, Int.sub_bmod_bmod, Int.bmod_mul_bmod, Int.mul_bmod_bmod]; exact i32_bm (by omega) (by omega)) (by omega) (by omega) | exact i32_in (by decide) (by decide)) (by (try simp (disch := omega) only [tS_1, tS_2, tA_1, tA_2, tF_1, tF_2, xl_0, xl_1, xl_2, Nat.reduceEqDiff, ↓reduceIte, nI_add, nI_1, nm_2, nm_3, nm_4, nm_6, nm_7, nm_8, nm_12, nm_16, nm_24, nm_40, nm_180, nm_300, nm_10210, na_0, na_2, na_3, na_4, na_5, na_6, na_7, na_8, nm_p, nm_m, nI_clamp, e10, e9]); exact rfl) dX8_rule_59 ?_
    refine x_aload_n hκ dX8_rule_60 rfl ?_
    refine t_get hκ fl8_10 (by decide) (by decide) rfl (by (try simp (disch := omega) only [tS_1, tS_2, tA_1, tA_2, tF_1, tF_2, xl_0, xl_1, xl_2, Nat.reduceEqDiff, ↓reduceIte, nI_add, nI_1, nm_2, nm_3, nm_4, nm_6, nm_7, nm_8, nm_12, nm_16, nm_24, nm_40, nm_180, nm_300, nm_10210, na_0, na_2, na_3, na_4, na_5, na_6, na_7, na_8, nm_p, nm_m, nI_clamp, e10, e9]); exact rfl) dX8_rule_61 ?_
    refine x_if_ge (tgt := 71) hκ dX8_rule_64 (by decide) (fun c64 => ?_) (fun c64 => ?_)
    · -- X8_rule 64T
      have i64 := c64
      simp (disch := omega) only [i32_lt, i32_le, i32_eq, Int32.reduceToInt, nI_toInt] at i64
      refine x_iconst (v := 0) hκ dX8_rule_71 (by decide) ?_
      refine x_istore_n hκ dX8_rule_72 (by rw [hL]; decide) rfl ?_
      refine x_iload_n hκ dX8_rule_73 rfl ?_
      refine x_if_eq (tgt := 135) hκ dX8_rule_74 (by decide) (fun c74 => ?_) (fun c74 => ?_)
      · -- X8_rule 74T
        have i74 := c74
        simp (disch := omega) only [i32_lt, i32_le, i32_eq, Int32.reduceToInt, nI_toInt] at i74
        exact J135 _ _ e19 (endF p (b + 1) _ hp hrl ((hFr.S rfl _).A rfl _ _) e10 (by omega) rfl)
      · -- X8_rule 74F
        have i74 := c74
        simp (disch := omega) only [i32_lt, i32_le, i32_eq, Int32.reduceToInt, nI_toInt] at i74
        exact absurd rfl c74
    · -- X8_rule 64F
      have i64 := c64
      simp (disch := omega) only [i32_lt, i32_le, i32_eq, Int32.reduceToInt, nI_toInt] at i64
      exact absurd (nI_pos' (by omega)) c64
  -- the acts
  have acts : ∀ (a1 : Nat) (o1 : List Int32) (σb : TS), ex (σ.2 0) N a o = .inr (a1, o1) → cur (σ.2 0) N (skp (σ.2 0) N a1) = 58 → Fr ruS σ σb → σb.1 10 = -1 → σb.1 19 = nI r → σb.1 15 = nI o1.length → AL (σb.2 14) 0 o1 → σb.2 16 = upd (σ.2 16) r (nI o.length) → σb.2 17 = σ.2 17 → σb.2 18 = σ.2 18 → ∀ (f b : Nat) (acc : List Int32) (σc : TS), acc.length + f = 4 → 1 ≤ f → b ≤ 91 → o1.length ≤ b → Fr [9, 17, 18] σb σc → σc.1 9 = nI b → σc.2 18 = upd (σ.2 18) r (nI acc.length) → AL (σc.2 17) (4 * r) acc → (∀ i, i < 4 * r → σc.2 17 i = σ.2 17 i) → alF (σ.2 0) N f b acc = alF (σ.2 0) N 4 (skp (σ.2 0) N a1 + 1) [] → X κ (tG (kE κ) θ σc) 0 0 73 [some (.ref θ.1), some (.int (nI r)), some (.int 1)] [] := by
    intro a1 o1 σb hex h58 hFb b10 b19 b15 bA b16 b17 b18 f
    induction f with
    | zero => intro b acc σc _ h1; omega
    | succ f ih =>
      intro b acc σc hfl _ hb hob hFc c9 c18 cA c17 hal
      have k1 : σc.1 1 = nI N := by rw [(hFc 1 rfl).1, (hFb 1 rfl).1]; exact hT
      have k10 : σc.1 10 = -1 := by rw [(hFc 10 rfl).1]; exact b10
      have k0 : σc.2 0 = σ.2 0 := by rw [(hFc 0 rfl).2, (hFb 0 rfl).2]
      have k19 : σc.1 19 = nI r := by rw [(hFc 19 rfl).1]; exact b19
      have k18 : σc.2 18 r = nI acc.length := by rw [c18]; exact if_pos rfl
      have hFsc : Fr ruS σ σc := hFb.trans (hFc.sub (fun k hk => by
        simp only [ruS, List.contains_cons, List.contains_nil, Bool.or_false, Bool.or_eq_false_iff] at hk ⊢
        simp only [hk, and_self]))
      -- the end without a fault
      have endP : ∀ (e b2 : Nat) (x : Int32) (σe : TS), act1 (σ.2 0) N b = .inr (e, x) → (¬ (acc.length + 1 < 4 ∧ cur (σ.2 0) N (skp (σ.2 0) N e) = 44)) → σe = tS (tA (tA (tS σc 9 (nI e)) 17 (4 * r + acc.length) x) 18 r (nI (acc.length + 1))) 9 (nI b2) → b2 ≤ 91 → e ≤ b2 → skp (σ.2 0) N b2 = skp (σ.2 0) N e → ((∀ p, rl (σ.2 0) N a o = .inl p → RuF σ r p (tA (tS σe 19 (nI (r + 1))) 16 (r + 1) (σe.1 15))) ∧ ∀ a' o' ac, rl (σ.2 0) N a o = .inr (a', o', ac) → RuP σ N r o a' o' ac (tA (tS σe 19 (nI (r + 1))) 16 (r + 1) (σe.1 15))) := by
        intro e b2 x σe hac hno hσe hb2 heb hskb
        have hpos := act1_pos hac
        rw [alF_e hac hno] at hal
        have hrl := rl_r hex h58 hal.symm
        refine ⟨fun p hp => (by rw [hrl] at hp; cases hp), fun a' o' ac hp => ?_⟩
        rw [hrl] at hp
        cases hp
        subst hσe
        have e15 : σc.1 15 = nI o1.length := by rw [(hFc 15 rfl).1]; exact b15
        refine ⟨((((((hFsc.S rfl _).A rfl _ _).A rfl _ _).S rfl _).S rfl _).A rfl _ _), k10, ⟨b2, rfl, hb2, by omega, hskb⟩, e15, ?_, rfl, ?_, ?_, ?_, ?_, ?_⟩
        · show AL (σc.2 14) 0 o1
          rw [(hFc 14 rfl).2]; exact bA
        · show upd (σc.2 16) (r + 1) (σc.1 15) = _
          rw [(hFc 16 rfl).2, b16, e15]
        · show upd (σc.2 18) r (nI (acc.length + 1)) = _
          rw [c18, updupd, List.length_append, List.length_singleton]
        · exact cA.snoc x
        · rw [List.length_append, List.length_singleton]; omega
        · intro i hi
          show upd (σc.2 17) (4 * r + acc.length) x i = _
          unfold upd
          rw [if_neg (by omega)]
          exact c17 i hi
      refine x_iload_n hκ dX8_rule_73 rfl ?_
      refine x_if_eq (tgt := 135) hκ dX8_rule_74 (by decide) (fun c74 => ?_) (fun c74 => ?_)
      · -- X8_rule 74T
        have i74 := c74
        simp (disch := omega) only [i32_lt, i32_le, i32_eq, Int32.reduceToInt, nI_toInt] at i74
        exact absurd c74 (by decide)
      · -- X8_rule 74F
        have i74 := c74
        simp (disch := omega) only [i32_lt, i32_le, i32_eq, Int32.reduceToInt, nI_toInt] at i74
        refine x_aload_n hκ dX8_rule_77 rfl ?_
        refine x_iload_n hκ dX8_rule_78 rfl ?_
        refine t_callv hκ (mX8_act hθ (j := acc.length) c9 k1 hN (by omega) k10 hr6 k18 (by omega)) (by omega) (by decide) wX8_183 aX8_act rfl (Nat.le_of_ble_eq_true rfl) dX8_rule_79 (fun σ79 h79 => ?_)
        rw [k0] at h79
        cases hac : act1 (σ.2 0) N b with
        | inl p =>
          obtain ⟨hFa, a10, b2, hb2, a9⟩ := h79.1 p hac
          rw [alF_l hac] at hal
          have hrl := rl_l hex h58 hal.symm
          have hpp := act1_p hac
          have hFa2 : Fr ruS σ σ79 := hFsc.trans (hFa.sub raS_ru)
          have a19 : σ79.1 19 = nI r := by rw [(hFa 19 rfl).1]; exact k19
          refine x_aload_n hκ dX8_rule_82 rfl ?_
          refine t_get hκ fl8_10 (by decide) (by decide) rfl (by (try simp (disch := omega) only [tS_1, tS_2, tA_1, tA_2, tF_1, tF_2, xl_0, xl_1, xl_2, Nat.reduceEqDiff, ↓reduceIte, nI_add, nI_1, nm_2, nm_3, nm_4, nm_6, nm_7, nm_8, nm_12, nm_16, nm_24, nm_40, nm_180, nm_300, nm_10210, na_0, na_2, na_3, na_4, na_5, na_6, na_7, na_8, nm_p, nm_m, nI_clamp, a10, a9]); exact rfl) dX8_rule_83 ?_
          refine x_if_ge (tgt := 112) hκ dX8_rule_86 (by decide) (fun c86 => ?_) (fun c86 => ?_)
          · -- X8_rule 86T
            have i86 := c86
            simp (disch := omega) only [i32_lt, i32_le, i32_eq, Int32.reduceToInt, nI_toInt] at i86
            refine x_iconst (v := 0) hκ dX8_rule_112 (by decide) ?_
            refine x_istore_n hκ dX8_rule_113 (by rw [hL]; decide) rfl ?_
            refine x_aload_n hκ dX8_rule_114 rfl ?_
            refine x_dup hκ dX8_rule_115 rfl ?_
            refine t_get hκ fl8_9 (by decide) (by decide) rfl (by (try simp (disch := omega) only [tS_1, tS_2, tA_1, tA_2, tF_1, tF_2, xl_0, xl_1, xl_2, Nat.reduceEqDiff, ↓reduceIte, nI_add, nI_1, nm_2, nm_3, nm_4, nm_6, nm_7, nm_8, nm_12, nm_16, nm_24, nm_40, nm_180, nm_300, nm_10210, na_0, na_2, na_3, na_4, na_5, na_6, na_7, na_8, nm_p, nm_m, nI_clamp, a10, a9]); exact rfl) dX8_rule_116 ?_
            refine x_iload_n hκ dX8_rule_119 rfl ?_
            refine x_if_eq (tgt := 127) hκ dX8_rule_120 (by decide) (fun c120 => ?_) (fun c120 => ?_)
            · -- X8_rule 120T
              have i120 := c120
              simp (disch := omega) only [i32_lt, i32_le, i32_eq, Int32.reduceToInt, nI_toInt] at i120
              refine x_iconst (v := 0) hκ dX8_rule_127 (by decide) ?_
              refine x_iaddN hκ (by (try simp (disch := omega) only [tS_1, tS_2, tA_1, tA_2, tF_1, tF_2, xl_0, xl_1, xl_2, Nat.reduceEqDiff, ↓reduceIte, nI_add, nI_1, nm_2, nm_3, nm_4, nm_6, nm_7, nm_8, nm_12, nm_16, nm_24, nm_40, nm_180, nm_300, nm_10210, na_0, na_2, na_3, na_4, na_5, na_6, na_7, na_8, nm_p, nm_m, nI_clamp, a10, a9]); exact rfl) dX8_rule_128 ?_
              refine t_put hκ fl8_9 (by decide) (by decide) rfl rfl rfl dX8_rule_129 ?_
              refine x_goto (tgt := 73) hκ dX8_rule_132 (by decide) ?_
              refine x_iload_n hκ dX8_rule_73 rfl ?_
              refine x_if_eq (tgt := 135) hκ dX8_rule_74 (by decide) (fun c74 => ?_) (fun c74 => ?_)
              · -- X8_rule 74T
                have i74 := c74
                simp (disch := omega) only [i32_lt, i32_le, i32_eq, Int32.reduceToInt, nI_toInt] at i74
                exact J135 _ _ a19 (endF p b2 _ (by omega) hrl (hFa2.S rfl _) a10 (by omega) rfl)
              · -- X8_rule 74F
                have i74 := c74
                simp (disch := omega) only [i32_lt, i32_le, i32_eq, Int32.reduceToInt, nI_toInt] at i74
                exact absurd rfl c74
            · -- X8_rule 120F
              have i120 := c120
              simp (disch := omega) only [i32_lt, i32_le, i32_eq, Int32.reduceToInt, nI_toInt] at i120
              exact absurd rfl c120
          · -- X8_rule 86F
            have i86 := c86
            simp (disch := omega) only [i32_lt, i32_le, i32_eq, Int32.reduceToInt, nI_toInt] at i86
            exact absurd (nI_pos' (by omega)) c86
        | inr q =>
          obtain ⟨e, x⟩ := q
          obtain rfl := h79.2 e x hac
          have hpos := act1_pos hac
          have w10 : (tA (tA (tS σc 9 (nI e)) 17 (4 * r + acc.length) x) 18 r (nI (acc.length + 1))).1 10 = -1 := k10
          have w18 : (tA (tA (tS σc 9 (nI e)) 17 (4 * r + acc.length) x) 18 r (nI (acc.length + 1))).2 18 r = nI (acc.length + 1) := if_pos rfl
          have hbk := skp_b (T := σ.2 0) (N := N) (a := e)
          refine x_aload_n hκ dX8_rule_82 rfl ?_
          refine t_get hκ fl8_10 (by decide) (by decide) rfl (by (try simp (disch := omega) only [tS_1, tS_2, tA_1, tA_2, tF_1, tF_2, xl_0, xl_1, xl_2, Nat.reduceEqDiff, ↓reduceIte, nI_add, nI_1, nm_2, nm_3, nm_4, nm_6, nm_7, nm_8, nm_12, nm_16, nm_24, nm_40, nm_180, nm_300, nm_10210, na_0, na_2, na_3, na_4, na_5, na_6, na_7, na_8, nm_p, nm_m, nI_clamp, w10, w18]); exact rfl) dX8_rule_83 ?_
          refine x_if_ge (tgt := 112) hκ dX8_rule_86 (by decide) (fun c86 => ?_) (fun c86 => ?_)
          · -- X8_rule 86T
            have i86 := c86
            simp (disch := omega) only [i32_lt, i32_le, i32_eq, Int32.reduceToInt, nI_toInt] at i86
            exact absurd c86 (by decide)
          · -- X8_rule 86F
            have i86 := c86
            simp (disch := omega) only [i32_lt, i32_le, i32_eq, Int32.reduceToInt, nI_toInt] at i86
            refine x_aload_n hκ dX8_rule_89 rfl ?_
            refine t_getA hκ fl8_18 (by decide) (by decide) rfl dX8_rule_90 ?_
            refine x_iload_n hκ dX8_rule_93 rfl ?_
            refine t_iald (n := 6) hκ hθ (by decide) rfl rfl (by first | ((with_reducible refine vp_in_nI ?_ ?_) <;> omega) | exact i32_in (by omega) (by omega) | exact i32_in' (by simp only [Int32.toInt_add, Int32.toInt_mul, Int32.toInt_sub, Int32.reduceToInt, Int.bmod_add_bmod, Int.bmod_sub_bmod, Int.add_bmod_bmod, Int.sub_bmod_bmod, Int.bmod_mul_bmod, Int.mul_bmod_bmod]; exact i32_bm (by omega) (by omega)) (by omega) (by omega) | exact i32_in (by decide) (by decide)) (by (try simp (disch := omega) only [tS_1, tS_2, tA_1, tA_2, tF_1, tF_2, xl_0, xl_1, xl_2, Nat.reduceEqDiff, ↓reduceIte, nI_add, nI_1, nm_2, nm_3, nm_4, nm_6, nm_7, nm_8, nm_12, nm_16, nm_24, nm_40, nm_180, nm_300, nm_10210, na_0, na_2, na_3, na_4, na_5, na_6, na_7, na_8, nm_p, nm_m, nI_clamp, w10, w18]); exact rfl) dX8_rule_94 ?_
            refine x_iconst (v := 4) hκ dX8_rule_95 (by decide) ?_
            refine x_icmp_ge (tgt := 112) hκ dX8_rule_96 (by decide) (fun c96 => ?_) (fun c96 => ?_)
            · -- X8_rule 96T
              have i96 := c96
              simp (disch := omega) only [i32_lt, i32_le, i32_eq, Int32.reduceToInt, nI_toInt] at i96
              refine x_iconst (v := 0) hκ dX8_rule_112 (by decide) ?_
              refine x_istore_n hκ dX8_rule_113 (by rw [hL]; decide) rfl ?_
              refine x_aload_n hκ dX8_rule_114 rfl ?_
              refine x_dup hκ dX8_rule_115 rfl ?_
              refine t_get hκ fl8_9 (by decide) (by decide) rfl (by (try simp (disch := omega) only [tS_1, tS_2, tA_1, tA_2, tF_1, tF_2, xl_0, xl_1, xl_2, Nat.reduceEqDiff, ↓reduceIte, nI_add, nI_1, nm_2, nm_3, nm_4, nm_6, nm_7, nm_8, nm_12, nm_16, nm_24, nm_40, nm_180, nm_300, nm_10210, na_0, na_2, na_3, na_4, na_5, na_6, na_7, na_8, nm_p, nm_m, nI_clamp, w10, w18]); exact rfl) dX8_rule_116 ?_
              refine x_iload_n hκ dX8_rule_119 rfl ?_
              refine x_if_eq (tgt := 127) hκ dX8_rule_120 (by decide) (fun c120 => ?_) (fun c120 => ?_)
              · -- X8_rule 120T
                have i120 := c120
                simp (disch := omega) only [i32_lt, i32_le, i32_eq, Int32.reduceToInt, nI_toInt] at i120
                refine x_iconst (v := 0) hκ dX8_rule_127 (by decide) ?_
                refine x_iaddN hκ (by (try simp (disch := omega) only [tS_1, tS_2, tA_1, tA_2, tF_1, tF_2, xl_0, xl_1, xl_2, Nat.reduceEqDiff, ↓reduceIte, nI_add, nI_1, nm_2, nm_3, nm_4, nm_6, nm_7, nm_8, nm_12, nm_16, nm_24, nm_40, nm_180, nm_300, nm_10210, na_0, na_2, na_3, na_4, na_5, na_6, na_7, na_8, nm_p, nm_m, nI_clamp, w10, w18]); exact rfl) dX8_rule_128 ?_
                refine t_put hκ fl8_9 (by decide) (by decide) rfl rfl rfl dX8_rule_129 ?_
                refine x_goto (tgt := 73) hκ dX8_rule_132 (by decide) ?_
                skip
                refine x_iload_n hκ dX8_rule_73 rfl ?_
                refine x_if_eq (tgt := 135) hκ dX8_rule_74 (by decide) (fun c74 => ?_) (fun c74 => ?_)
                · -- X8_rule 74T
                  have i74 := c74
                  simp (disch := omega) only [i32_lt, i32_le, i32_eq, Int32.reduceToInt, nI_toInt] at i74
                  exact J135 _ _ k19 (endP e e x _ hac (fun z => by have := z.1; omega) rfl (by omega) (Nat.le_refl _) rfl)
                · -- X8_rule 74F
                  have i74 := c74
                  simp (disch := omega) only [i32_lt, i32_le, i32_eq, Int32.reduceToInt, nI_toInt] at i74
                  exact absurd rfl c74
              · -- X8_rule 120F
                have i120 := c120
                simp (disch := omega) only [i32_lt, i32_le, i32_eq, Int32.reduceToInt, nI_toInt] at i120
                exact absurd rfl c120
            · -- X8_rule 96F
              have i96 := c96
              simp (disch := omega) only [i32_lt, i32_le, i32_eq, Int32.reduceToInt, nI_toInt] at i96
              refine x_aload_n hκ dX8_rule_99 rfl ?_
              refine t_calli hκ (mX8_next hθ (a := e) (N := N) (by exact rfl) (by exact k1) hN (by omega)) (by omega) (by decide) wX8_138 aX8_next rfl (Nat.le_of_ble_eq_true rfl) dX8_rule_100 (fun r100 σ100 h100 => ?_)
              rw [show (tA (tA (tS σc 9 (nI e)) 17 (4 * r + acc.length) x) 18 r (nI (acc.length + 1))).2 0 = σ.2 0 from k0] at h100
              obtain ⟨rfl, rfl⟩ := h100
              refine x_bipush (v := 44) hκ dX8_rule_103 (by decide) ?_
              refine x_icmp_ne (tgt := 112) hκ dX8_rule_105 (by decide) (fun c105 => ?_) (fun c105 => ?_)
              · -- X8_rule 105T
                have i105 := c105
                simp (disch := omega) only [i32_lt, i32_le, i32_eq, Int32.reduceToInt, nI_toInt] at i105
                refine x_iconst (v := 0) hκ dX8_rule_112 (by decide) ?_
                refine x_istore_n hκ dX8_rule_113 (by rw [hL]; decide) rfl ?_
                refine x_aload_n hκ dX8_rule_114 rfl ?_
                refine x_dup hκ dX8_rule_115 rfl ?_
                refine t_get hκ fl8_9 (by decide) (by decide) rfl (by (try simp (disch := omega) only [tS_1, tS_2, tA_1, tA_2, tF_1, tF_2, xl_0, xl_1, xl_2, Nat.reduceEqDiff, ↓reduceIte, nI_add, nI_1, nm_2, nm_3, nm_4, nm_6, nm_7, nm_8, nm_12, nm_16, nm_24, nm_40, nm_180, nm_300, nm_10210, na_0, na_2, na_3, na_4, na_5, na_6, na_7, na_8, nm_p, nm_m, nI_clamp, w10, w18]); exact rfl) dX8_rule_116 ?_
                refine x_iload_n hκ dX8_rule_119 rfl ?_
                refine x_if_eq (tgt := 127) hκ dX8_rule_120 (by decide) (fun c120 => ?_) (fun c120 => ?_)
                · -- X8_rule 120T
                  have i120 := c120
                  simp (disch := omega) only [i32_lt, i32_le, i32_eq, Int32.reduceToInt, nI_toInt] at i120
                  refine x_iconst (v := 0) hκ dX8_rule_127 (by decide) ?_
                  refine x_iaddN hκ (by (try simp (disch := omega) only [tS_1, tS_2, tA_1, tA_2, tF_1, tF_2, xl_0, xl_1, xl_2, Nat.reduceEqDiff, ↓reduceIte, nI_add, nI_1, nm_2, nm_3, nm_4, nm_6, nm_7, nm_8, nm_12, nm_16, nm_24, nm_40, nm_180, nm_300, nm_10210, na_0, na_2, na_3, na_4, na_5, na_6, na_7, na_8, nm_p, nm_m, nI_clamp, w10, w18]); exact rfl) dX8_rule_128 ?_
                  refine t_put hκ fl8_9 (by decide) (by decide) rfl rfl rfl dX8_rule_129 ?_
                  refine x_goto (tgt := 73) hκ dX8_rule_132 (by decide) ?_
                  skip
                  refine x_iload_n hκ dX8_rule_73 rfl ?_
                  refine x_if_eq (tgt := 135) hκ dX8_rule_74 (by decide) (fun c74 => ?_) (fun c74 => ?_)
                  · -- X8_rule 74T
                    have i74 := c74
                    simp (disch := omega) only [i32_lt, i32_le, i32_eq, Int32.reduceToInt, nI_toInt] at i74
                    exact J135 _ _ k19 (endP e (skp (σ.2 0) N e) x _ hac (fun z => c105 z.2) (by rw [tS_tS]; rfl) (by omega) (by omega) skp_skp)
                  · -- X8_rule 74F
                    have i74 := c74
                    simp (disch := omega) only [i32_lt, i32_le, i32_eq, Int32.reduceToInt, nI_toInt] at i74
                    exact absurd rfl c74
                · -- X8_rule 120F
                  have i120 := c120
                  simp (disch := omega) only [i32_lt, i32_le, i32_eq, Int32.reduceToInt, nI_toInt] at i120
                  exact absurd rfl c120
              · -- X8_rule 105F
                have i105 := c105
                simp (disch := omega) only [i32_lt, i32_le, i32_eq, Int32.reduceToInt, nI_toInt] at i105
                refine x_iconst (v := 1) hκ dX8_rule_108 (by decide) ?_
                refine x_goto (tgt := 113) hκ dX8_rule_109 (by decide) ?_
                refine x_istore_n hκ dX8_rule_113 (by rw [hL]; decide) rfl ?_
                refine x_aload_n hκ dX8_rule_114 rfl ?_
                refine x_dup hκ dX8_rule_115 rfl ?_
                refine t_get hκ fl8_9 (by decide) (by decide) rfl (by (try simp (disch := omega) only [tS_1, tS_2, tA_1, tA_2, tF_1, tF_2, xl_0, xl_1, xl_2, Nat.reduceEqDiff, ↓reduceIte, nI_add, nI_1, nm_2, nm_3, nm_4, nm_6, nm_7, nm_8, nm_12, nm_16, nm_24, nm_40, nm_180, nm_300, nm_10210, na_0, na_2, na_3, na_4, na_5, na_6, na_7, na_8, nm_p, nm_m, nI_clamp, w10, w18]); exact rfl) dX8_rule_116 ?_
                refine x_iload_n hκ dX8_rule_119 rfl ?_
                refine x_if_eq (tgt := 127) hκ dX8_rule_120 (by decide) (fun c120 => ?_) (fun c120 => ?_)
                · -- X8_rule 120T
                  have i120 := c120
                  simp (disch := omega) only [i32_lt, i32_le, i32_eq, Int32.reduceToInt, nI_toInt] at i120
                  exact absurd c120 (by decide)
                · -- X8_rule 120F
                  have i120 := c120
                  simp (disch := omega) only [i32_lt, i32_le, i32_eq, Int32.reduceToInt, nI_toInt] at i120
                  refine x_iconst (v := 1) hκ dX8_rule_123 (by decide) ?_
                  refine x_goto (tgt := 128) hκ dX8_rule_124 (by decide) ?_
                  refine x_iaddN hκ (by (try simp (disch := omega) only [tS_1, tS_2, tA_1, tA_2, tF_1, tF_2, xl_0, xl_1, xl_2, Nat.reduceEqDiff, ↓reduceIte, nI_add, nI_1, nm_2, nm_3, nm_4, nm_6, nm_7, nm_8, nm_12, nm_16, nm_24, nm_40, nm_180, nm_300, nm_10210, na_0, na_2, na_3, na_4, na_5, na_6, na_7, na_8, nm_p, nm_m, nI_clamp, w10, w18]); exact rfl) dX8_rule_128 ?_
                  refine t_put hκ fl8_9 (by decide) (by decide) rfl rfl rfl dX8_rule_129 ?_
                  refine x_goto (tgt := 73) hκ dX8_rule_132 (by decide) ?_
                  have hlt : skp (σ.2 0) N e < N := cur_lt (T := σ.2 0) (fun z => by rw [z] at c105; exact absurd c105 (by decide))
                  rw [alF_m hac ⟨by omega, c105⟩] at hal
                  rw [tS_tS]
                  refine ih (skp (σ.2 0) N e + 1) (acc ++ [x]) _ (by rw [List.length_append, List.length_singleton]; omega) (by omega) (by omega) (by omega) ((((hFc.S rfl _).A rfl _ _).A rfl _ _).S rfl _) rfl ?_ (cA.snoc x) ?_ hal
                  · show upd (σc.2 18) r (nI (acc.length + 1)) = _
                    rw [c18, updupd, List.length_append, List.length_singleton]
                  · intro i hi
                    show upd (σc.2 17) (4 * r + acc.length) x i = _
                    unfold upd
                    rw [if_neg (by omega)]
                    exact c17 i hi
  refine x_aload_n hκ dX8_rule_0 rfl ?_
  refine t_get hκ fl8_19 (by decide) (by decide) rfl (by (try simp (disch := omega) only [tS_1, tS_2, tA_1, tA_2, tF_1, tF_2, xl_0, xl_1, xl_2, Nat.reduceEqDiff, ↓reduceIte, nI_add, nI_1, nm_2, nm_3, nm_4, nm_6, nm_7, nm_8, nm_12, nm_16, nm_24, nm_40, nm_180, nm_300, nm_10210, na_0, na_2, na_3, na_4, na_5, na_6, na_7, na_8, nm_p, nm_m, nI_clamp, h19, h15]); exact rfl) dX8_rule_1 ?_
  refine x_istore_n hκ dX8_rule_4 (by rw [hL]; decide) rfl ?_
  refine x_aload_n hκ dX8_rule_5 rfl ?_
  refine t_getA hκ fl8_16 (by decide) (by decide) rfl dX8_rule_6 ?_
  refine x_iload_n hκ dX8_rule_9 rfl ?_
  refine x_aload_n hκ dX8_rule_10 rfl ?_
  refine t_get hκ fl8_15 (by decide) (by decide) rfl (by (try simp (disch := omega) only [tS_1, tS_2, tA_1, tA_2, tF_1, tF_2, xl_0, xl_1, xl_2, Nat.reduceEqDiff, ↓reduceIte, nI_add, nI_1, nm_2, nm_3, nm_4, nm_6, nm_7, nm_8, nm_12, nm_16, nm_24, nm_40, nm_180, nm_300, nm_10210, na_0, na_2, na_3, na_4, na_5, na_6, na_7, na_8, nm_p, nm_m, nI_clamp, h19, h15]); exact rfl) dX8_rule_11 ?_
  refine t_iast (n := 7) hκ hθ (by decide) rfl rfl (by first | ((with_reducible refine vp_in_nI ?_ ?_) <;> omega) | exact i32_in (by omega) (by omega) | exact i32_in' (by simp only [Int32.toInt_add, Int32.toInt_mul, Int32.toInt_sub, Int32.reduceToInt, Int.bmod_add_bmod, Int.bmod_sub_bmod, Int.add_bmod_bmod, Int.sub_bmod_bmod, Int.bmod_mul_bmod, Int.mul_bmod_bmod]; exact i32_bm (by omega) (by omega)) (by omega) (by omega) | exact i32_in (by decide) (by decide)) (by (try simp (disch := omega) only [tS_1, tS_2, tA_1, tA_2, tF_1, tF_2, xl_0, xl_1, xl_2, Nat.reduceEqDiff, ↓reduceIte, nI_add, nI_1, nm_2, nm_3, nm_4, nm_6, nm_7, nm_8, nm_12, nm_16, nm_24, nm_40, nm_180, nm_300, nm_10210, na_0, na_2, na_3, na_4, na_5, na_6, na_7, na_8, nm_p, nm_m, nI_clamp, h19, h15]); exact rfl) dX8_rule_14 ?_
  refine x_aload_n hκ dX8_rule_15 rfl ?_
  refine t_callv hκ (mX8_expression hθ (a := a) (N := N) (o := o) (by exact h9) (by exact hT) hN (by exact h10) (by exact h15) (by exact hA) hoa ha) (by omega) (by decide) wX8_180 aX8_expression rfl (Nat.le_of_ble_eq_true rfl) dX8_rule_16 (fun σ16 h16 => ?_)
  rw [show (tA σ 16 r (nI o.length)).2 0 = σ.2 0 from rfl] at h16
  cases hex : ex (σ.2 0) N a o with
  | inl p =>
    obtain ⟨b, W, o2, hb, hP⟩ := h16.1 p hex
    have hrl := rl_x hex
    have hFr : Fr ruS σ σ16 := (((Fr.rf ruS σ).A (k := 16) rfl _ _).S (k := 10) rfl (nI p)).trans (hP.1.sub psS_ru)
    have w10 : σ16.1 10 = nI p := by rw [(hP.1 10 rfl).1]; rfl
    have w19 : σ16.1 19 = nI r := by rw [(hP.1 19 rfl).1]; exact h19
    have hp300 : p ≤ 300 := ex_b hN ha hex
    refine x_aload_n hκ dX8_rule_19 rfl ?_
    refine t_get hκ fl8_10 (by decide) (by decide) rfl (by (try simp (disch := omega) only [tS_1, tS_2, tA_1, tA_2, tF_1, tF_2, xl_0, xl_1, xl_2, Nat.reduceEqDiff, ↓reduceIte, nI_add, nI_1, nm_2, nm_3, nm_4, nm_6, nm_7, nm_8, nm_12, nm_16, nm_24, nm_40, nm_180, nm_300, nm_10210, na_0, na_2, na_3, na_4, na_5, na_6, na_7, na_8, nm_p, nm_m, nI_clamp, w10]); exact rfl) dX8_rule_20 ?_
    refine x_if_ge (tgt := 43) hκ dX8_rule_23 (by decide) (fun c23 => ?_) (fun c23 => ?_)
    · -- X8_rule 23T
      have i23 := c23
      simp (disch := omega) only [i32_lt, i32_le, i32_eq, Int32.reduceToInt, nI_toInt] at i23
      exact J43f p b _ _ hp300 hb hrl hFr w10 hP.2.1 w19
    · -- X8_rule 23F
      have i23 := c23
      simp (disch := omega) only [i32_lt, i32_le, i32_eq, Int32.reduceToInt, nI_toInt] at i23
      exact absurd (nI_pos' (by omega)) c23
  | inr q =>
    obtain ⟨a1, o1⟩ := q
    have hP := h16.2 a1 o1 hex
    have hxl := ex_len hoa hex
    have hFr : Fr ruS σ σ16 := ((Fr.rf ruS σ).A (k := 16) rfl _ _).trans (hP.1.sub psS_ru)
    have w10 : σ16.1 10 = -1 := by rw [(hP.1 10 rfl).1]; exact h10
    have w19 : σ16.1 19 = nI r := by rw [(hP.1 19 rfl).1]; exact h19
    have w1 : σ16.1 1 = nI N := by rw [(hP.1 1 rfl).1]; exact hT
    have w0 : σ16.2 0 = σ.2 0 := (hP.1 0 rfl).2
    have hsb := skp_b (T := σ.2 0) (N := N) (a := a1)
    refine x_aload_n hκ dX8_rule_19 rfl ?_
    refine t_get hκ fl8_10 (by decide) (by decide) rfl (by (try simp (disch := omega) only [tS_1, tS_2, tA_1, tA_2, tF_1, tF_2, xl_0, xl_1, xl_2, Nat.reduceEqDiff, ↓reduceIte, nI_add, nI_1, nm_2, nm_3, nm_4, nm_6, nm_7, nm_8, nm_12, nm_16, nm_24, nm_40, nm_180, nm_300, nm_10210, na_0, na_2, na_3, na_4, na_5, na_6, na_7, na_8, nm_p, nm_m, nI_clamp, w10]); exact rfl) dX8_rule_20 ?_
    refine x_if_ge (tgt := 43) hκ dX8_rule_23 (by decide) (fun c23 => ?_) (fun c23 => ?_)
    · -- X8_rule 23T
      have i23 := c23
      simp (disch := omega) only [i32_lt, i32_le, i32_eq, Int32.reduceToInt, nI_toInt] at i23
      exact absurd c23 (by decide)
    · -- X8_rule 23F
      have i23 := c23
      simp (disch := omega) only [i32_lt, i32_le, i32_eq, Int32.reduceToInt, nI_toInt] at i23
      refine x_aload_n hκ dX8_rule_26 rfl ?_
      refine t_calli hκ (mX8_next hθ hP.2.1 w1 hN (by omega)) (by omega) (by decide) wX8_138 aX8_next rfl (Nat.le_of_ble_eq_true rfl) dX8_rule_27 (fun r27 σ27 h27 => ?_)
      rw [w0] at h27
      obtain ⟨rfl, rfl⟩ := h27
      refine x_bipush (v := 58) hκ dX8_rule_30 (by decide) ?_
      refine x_icmp_eq (tgt := 43) hκ dX8_rule_32 (by decide) (fun c32 => ?_) (fun c32 => ?_)
      · -- X8_rule 32T
        have i32 := c32
        simp (disch := omega) only [i32_lt, i32_le, i32_eq, Int32.reduceToInt, nI_toInt] at i32
        have hlt : skp (σ.2 0) N a1 < N := cur_lt (T := σ.2 0) (fun z => by rw [z] at c32; exact absurd c32 (by decide))
        have w10' : (tS σ16 9 (nI (skp (σ.2 0) N a1))).1 10 = -1 := w10
        refine x_aload_n hκ dX8_rule_43 rfl ?_
        refine x_dup hκ dX8_rule_44 rfl ?_
        refine t_get hκ fl8_9 (by decide) (by decide) rfl (by (try simp (disch := omega) only [tS_1, tS_2, tA_1, tA_2, tF_1, tF_2, xl_0, xl_1, xl_2, Nat.reduceEqDiff, ↓reduceIte, nI_add, nI_1, nm_2, nm_3, nm_4, nm_6, nm_7, nm_8, nm_12, nm_16, nm_24, nm_40, nm_180, nm_300, nm_10210, na_0, na_2, na_3, na_4, na_5, na_6, na_7, na_8, nm_p, nm_m, nI_clamp, w10', w10]); exact rfl) dX8_rule_45 ?_
        refine x_iconst (v := 1) hκ dX8_rule_48 (by decide) ?_
        refine x_iaddN hκ (by (try simp (disch := omega) only [tS_1, tS_2, tA_1, tA_2, tF_1, tF_2, xl_0, xl_1, xl_2, Nat.reduceEqDiff, ↓reduceIte, nI_add, nI_1, nm_2, nm_3, nm_4, nm_6, nm_7, nm_8, nm_12, nm_16, nm_24, nm_40, nm_180, nm_300, nm_10210, na_0, na_2, na_3, na_4, na_5, na_6, na_7, na_8, nm_p, nm_m, nI_clamp, w10', w10]); exact rfl) dX8_rule_49 ?_
        refine t_put hκ fl8_9 (by decide) (by decide) rfl rfl rfl dX8_rule_50 ?_
        refine x_aload_n hκ dX8_rule_53 rfl ?_
        refine t_getA hκ fl8_18 (by decide) (by decide) rfl dX8_rule_54 ?_
        refine x_iload_n hκ dX8_rule_57 rfl ?_
        refine x_iconst (v := 0) hκ dX8_rule_58 (by decide) ?_
        refine t_iast (n := 6) hκ hθ (by decide) rfl rfl (by first | ((with_reducible refine vp_in_nI ?_ ?_) <;> omega) | exact i32_in (by omega) (by omega) | exact i32_in' (by simp only [Int32.toInt_add, Int32.toInt_mul, Int32.toInt_sub, Int32.reduceToInt, Int.bmod_add_bmod, Int.bmod_sub_bmod, Int.add_bmod_bmod, Int.sub_bmod_bmod, Int.bmod_mul_bmod, Int.mul_bmod_bmod]; exact i32_bm (by omega) (by omega)) (by omega) (by omega) | exact i32_in (by decide) (by decide)) (by (try simp (disch := omega) only [tS_1, tS_2, tA_1, tA_2, tF_1, tF_2, xl_0, xl_1, xl_2, Nat.reduceEqDiff, ↓reduceIte, nI_add, nI_1, nm_2, nm_3, nm_4, nm_6, nm_7, nm_8, nm_12, nm_16, nm_24, nm_40, nm_180, nm_300, nm_10210, na_0, na_2, na_3, na_4, na_5, na_6, na_7, na_8, nm_p, nm_m, nI_clamp, w10', w10]); exact rfl) dX8_rule_59 ?_
        refine x_aload_n hκ dX8_rule_60 rfl ?_
        refine t_get hκ fl8_10 (by decide) (by decide) rfl (by (try simp (disch := omega) only [tS_1, tS_2, tA_1, tA_2, tF_1, tF_2, xl_0, xl_1, xl_2, Nat.reduceEqDiff, ↓reduceIte, nI_add, nI_1, nm_2, nm_3, nm_4, nm_6, nm_7, nm_8, nm_12, nm_16, nm_24, nm_40, nm_180, nm_300, nm_10210, na_0, na_2, na_3, na_4, na_5, na_6, na_7, na_8, nm_p, nm_m, nI_clamp, w10', w10]); exact rfl) dX8_rule_61 ?_
        refine x_if_ge (tgt := 71) hκ dX8_rule_64 (by decide) (fun c64 => ?_) (fun c64 => ?_)
        · -- X8_rule 64T
          have i64 := c64
          simp (disch := omega) only [i32_lt, i32_le, i32_eq, Int32.reduceToInt, nI_toInt] at i64
          exact absurd c64 (by decide)
        · -- X8_rule 64F
          have i64 := c64
          simp (disch := omega) only [i32_lt, i32_le, i32_eq, Int32.reduceToInt, nI_toInt] at i64
          refine x_iconst (v := 1) hκ dX8_rule_67 (by decide) ?_
          refine x_goto (tgt := 72) hκ dX8_rule_68 (by decide) ?_
          refine x_istore_n hκ dX8_rule_72 (by rw [hL]; decide) rfl ?_
          rw [tS_tS]
          exact acts a1 o1 σ16 hex c32 hFr w10 w19 hP.2.2.2.2.2.1 hP.2.2.2.2.2.2.1 ((hP.1 16 rfl).2) ((hP.1 17 rfl).2) ((hP.1 18 rfl).2) 4 (skp (σ.2 0) N a1 + 1) [] _ rfl (by omega) (by omega) (by omega) (((Fr.rf _ σ16).S rfl _).A rfl _ _) rfl (by show upd (σ16.2 18) r 0 = _; rw [(hP.1 18 rfl).2]; rfl) AL.nil (fun i _ => by show σ16.2 17 i = _; rw [(hP.1 17 rfl).2]; rfl) rfl
      · -- X8_rule 32F
        have i32 := c32
        simp (disch := omega) only [i32_lt, i32_le, i32_eq, Int32.reduceToInt, nI_toInt] at i32
        have hrl := rl_c hex c32
        refine x_aload_n hκ dX8_rule_35 rfl ?_
        refine x_aload_n hκ dX8_rule_36 rfl ?_
        refine t_get hκ fl8_9 (by decide) (by decide) rfl (by (try simp (disch := omega) only [tS_1, tS_2, tA_1, tA_2, tF_1, tF_2, xl_0, xl_1, xl_2, Nat.reduceEqDiff, ↓reduceIte, nI_add, nI_1, nm_2, nm_3, nm_4, nm_6, nm_7, nm_8, nm_12, nm_16, nm_24, nm_40, nm_180, nm_300, nm_10210, na_0, na_2, na_3, na_4, na_5, na_6, na_7, na_8, nm_p, nm_m, nI_clamp]); exact rfl) dX8_rule_37 ?_
        refine t_callv hκ (mX8_fails hθ) (by omega) (by decide) wX8_142 aX8_fails rfl (Nat.le_of_ble_eq_true rfl) dX8_rule_40 (fun σ40 h40 => ?_)
        subst h40
        exact J43f (skp (σ.2 0) N a1) (skp (σ.2 0) N a1) _ _ (by omega) (by omega) hrl ((hFr.S rfl _).S rfl _) (by show (if (σ16.1 10).toInt < 0 then nI (skp (σ.2 0) N a1) else σ16.1 10) = _; rw [w10, if_pos (by decide)]) rfl w19
