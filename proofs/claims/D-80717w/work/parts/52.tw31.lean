theorem wX8_189 : GoodIn lw_all (wsV RX8 189 RX8 yX8_rule (ws_ yX8_rule cX8_rule 3 none)) := lw_V q1362 q1364 qs33 q82 q1365
theorem aX8_rule : yX8_rule.cls = RX8 ∧ yX8_rule.cls ≠ "java/lang/invoke/MethodHandle" ∧ yX8_rule.cls ≠ "java/lang/invoke/VarHandle" ∧ (parseMethodDescriptor yX8_rule.desc).map (fun d => d.parameters.length) = some 0 := by decide +kernel
/-! the reference: rules -/
abbrev rzS : List Nat := [1, 2, 3, 4, 5, 6, 9, 10, 11, 12, 13, 14, 15, 16, 17, 18, 19]
theorem ruS_scr : ∀ k, scr k = false → ruS.contains k = false := by
  intro k hk
  simp only [scr, ruS, List.contains_cons, List.contains_nil, Bool.or_false, Bool.or_eq_false_iff] at hk ⊢
  simp only [hk, and_self]
theorem ruS_rz : ∀ k, rzS.contains k = false → ruS.contains k = false := by
  intro k hk
  simp only [rzS, ruS, List.contains_cons, List.contains_nil, Bool.or_false, Bool.or_eq_false_iff] at hk ⊢
  simp only [hk, and_self]
/-- the box b has the rules R now; the others' stay -/
def RzP (σ : TS) (b : Nat) (R : Rl) (σ' : TS) : Prop := Fr rzS σ σ' ∧ σ'.1 1 = 0 ∧ RV σ' b R ∧ ∀ (b' : Nat) (R' : Rl), b' < 3 → ¬ b' = b → RV σ b' R' → RV σ' b' R'
theorem Fr.RV {σ σ' : TS} (h : Fr ruS σ σ') {b : Nat} {R : Rl} (hR : RV σ b R) : RV σ' b R := by
  unfold _root_.Jvm.Pilot.CSortedPostLaw_law_r3663_2727c6.RV at hR ⊢
  rw [(h 2 rfl).2, (h 3 rfl).2, (h 4 rfl).2, (h 5 rfl).2, (h 6 rfl).2]
  exact hR
theorem rls_l {T : Nat → Int32} {N f a p : Nat} {o : List Int32} {R : Rl} (h : rl T N a o = .inl p) : rls T N (f + 1) a o R = .inl p := by rw [rls, h]
theorem rls_m {T : Nat → Int32} {N f a a1 : Nat} {o s ac : List Int32} {R : Rl} (h : rl T N a o = .inr (a1, o ++ s, ac)) (h2 : R.length + 1 < 6 ∧ cur T N a1 = 59) : rls T N (f + 1) a o R = rls T N f (a1 + 1) (o ++ s) (R ++ [(s, ac)]) := by rw [rls, h]; simp only [h2, and_self, if_true, List.drop_left]
theorem rls_e {T : Nat → Int32} {N f a a1 : Nat} {o s ac : List Int32} {R : Rl} (h : rl T N a o = .inr (a1, o ++ s, ac)) (h2 : ¬ (R.length + 1 < 6 ∧ cur T N a1 = 59)) : rls T N (f + 1) a o R = if cur T N a1 = 0 then .inr (R ++ [(s, ac)]) else .inl a1 := by rw [rls, h]; simp only [h2, if_false, List.drop_left]
theorem rl_p {T : Nat → Int32} {N a p : Nat} {o : List Int32} (hN : N ≤ 90) (ha : a ≤ 91) (ho : o.length ≤ a) (h : rl T N a o = .inl p) : p ≤ 300 := by
  cases hex : ex T N a o with
  | inl q => rw [rl_x hex] at h; cases h; exact ex_b hN ha hex
  | inr q =>
    obtain ⟨a1, o1⟩ := q
    have hl := ex_len ho hex
    have hb := skp_b (T := T) (N := N) (a := a1)
    by_cases hc : cur T N (skp T N a1) = 58
    · have hlt : skp T N a1 < N := cur_lt (T := T) (fun z => by rw [z] at hc; exact absurd hc (by decide))
      cases hal : alF T N 4 (skp T N a1 + 1) [] with
      | inr q => rw [rl_r (b := q.1) (ac := q.2) hex hc hal] at h; cases h
      | inl p' =>
        rw [rl_l hex hc hal] at h
        cases h
        have key : ∀ (f b : Nat) (acc : List Int32), b ≤ 91 → acc.length + f = 4 → 1 ≤ f → alF T N f b acc = .inl p → p ≤ 300 := by
          intro f
          induction f with
          | zero => intro b acc _ _ h1; omega
          | succ f ih =>
            intro b acc hb hf _ hq
            cases hac : act1 T N b with
            | inl p2 => rw [alF_l hac] at hq; cases hq; have := act1_p hac; omega
            | inr q =>
              obtain ⟨e, x⟩ := q
              by_cases hm : acc.length + 1 < 4 ∧ cur T N (skp T N e) = 44
              · rw [alF_m hac hm] at hq
                have hlt2 : skp T N e < N := cur_lt (T := T) (fun z => by rw [z] at hm; exact absurd hm.2 (by decide))
                exact ih _ _ (by omega) (by rw [List.length_append, List.length_singleton]; omega) (by omega) hq
              · rw [alF_e hac hm] at hq; cases hq
        exact key 4 _ [] (by omega) rfl (by omega) hal
    · rw [rl_c hex hc] at h; cases h; omega
theorem rl_o {T : Nat → Int32} {N a a1 : Nat} {o o1 ac : List Int32} (ho : o.length ≤ a) (h : rl T N a o = .inr (a1, o1, ac)) : o1.length ≤ N ∧ skp T N a1 = a1 := by
  cases hex : ex T N a o with
  | inl q => rw [rl_x hex] at h; cases h
  | inr q =>
    obtain ⟨a2, o2⟩ := q
    have hl := ex_len ho hex
    have hb := skp_b (T := T) (N := N) (a := a2)
    by_cases hc : cur T N (skp T N a2) = 58
    · have hlt : skp T N a2 < N := cur_lt (T := T) (fun z => by rw [z] at hc; exact absurd hc (by decide))
      cases hal : alF T N 4 (skp T N a2 + 1) [] with
      | inl p => rw [rl_l hex hc hal] at h; cases h
      | inr q =>
        rw [rl_r (b := q.1) (ac := q.2) hex hc hal] at h
        cases h
        refine ⟨by omega, ?_⟩
        have key : ∀ (f b : Nat) (acc : List Int32) (e : Nat) (l : List Int32), alF T N f b acc = .inr (e, l) → skp T N e = e := by
          intro f
          induction f with
          | zero => intro b acc e l hq; rw [alF] at hq; cases hq
          | succ f ih =>
            intro b acc e l hq
            cases hac : act1 T N b with
            | inl p2 => rw [alF_l hac] at hq; cases hq
            | inr q =>
              obtain ⟨e1, x⟩ := q
              by_cases hm : acc.length + 1 < 4 ∧ cur T N (skp T N e1) = 44
              · rw [alF_m hac hm] at hq
                exact ih _ _ _ _ hq
              · rw [alF_e hac hm] at hq
                cases hq
                exact skp_skp
        exact key 4 _ [] q.1 q.2 hal
    · rw [rl_c hex hc] at h; cases h
theorem mX8_rules {E : gE} {θ : TA} (hθ : tOk θ) {σ : TS} {N : Nat} (hT : σ.1 1 = nI N) (hN : N ≤ 90) {b : Int32} : TMi E θ σ yX8_rules cX8_rules 5 .int 5 [.int b] (fun r σ' => (¬ (0 ≤ b.toInt ∧ b.toInt ≤ 2) → r = -1 ∧ σ' = σ) ∧ (0 ≤ b.toInt ∧ b.toInt ≤ 2 → (∀ p, rls (σ.2 0) N 6 0 [] [] = .inl p → r = -20 - nI p ∧ Pe (tS σ 1 0) σ') ∧ ∀ R, rls (σ.2 0) N 6 0 [] [] = .inr R → r = nI R.length ∧ RzP σ (Int32.toNatClampNeg b) R σ')) := by
  refine TMi.of (by decide) (Nat.le_of_ble_eq_true rfl) ?_
  rintro κ rfl hL hκ hr
  by_cases hin : 0 ≤ b.toInt ∧ b.toInt ≤ 2
  case neg =>
    refine x_iload_n hκ dX8_rules_0 rfl ?_
    refine x_callSi hκ mX8_isBox (by omega) (by decide) wX8_186 aX8_isBox rfl (Nat.le_of_ble_eq_true rfl) dX8_rules_1 (fun r1 h1 => ?_)
    refine x_if_ne (tgt := 9) hκ dX8_rules_4 (by decide) (fun c4 => ?_) (fun c4 => ?_)
    · -- X8_rules 4T
      have i4 := h1.t c4
      try simp only [Int32.reduceToInt] at i4
      exact absurd i4 hin
    · -- X8_rules 4F
      have i4 := h1.f c4
      try simp only [Int32.reduceToInt] at i4
      refine x_iconst (v := (-1)) hκ dX8_rules_7 (by decide) ?_
      refine t_reti hκ hr rfl dX8_rules_8 ?_
      exact ⟨fun _ => ⟨rfl, rfl⟩, fun z => absurd z hin⟩
  have eb := i32_nI hin.1
  have hb3 : Int32.toNatClampNeg b < 3 := by show b.toInt.toNat < 3; omega
  generalize hbx : Int32.toNatClampNeg b = bx at eb hb3
  have neg1 : (-1 : Int32).toInt < 0 := by decide
  -- the copying
  have J133 : ∀ (R : Rl) (σd : TS) (z2 : Int32) (o3 o4 : Option Value), RI R σd → R ≠ [] → R.length ≤ 6 → (allC R).length ≤ 90 → Fr ruS (tS σ 1 0) σd → rls (σ.2 0) N 6 0 [] [] = .inr R → X κ (tG (kE κ) θ σd) 0 0 133 [some (.ref θ.1), some (.int b), some (.int z2), o3, o4] [] := by
    intro R σd z2 o3 o4 hRI hne h6 h90 hFr hrl
    obtain ⟨d19, d15, d14, -⟩ := id hRI
    have hF : ∀ n m r4 r6 k5 : Nat, Fr rzS σ (CS σd bx n m r4 r6 k5) := fun n m r4 r6 k5 => by
      have h0 : Fr rzS σ σd := ((Fr.rf rzS σ).S (k := 1) rfl 0).trans (hFr.sub ruS_rz)
      exact ((((h0.A (k := 2) rfl _ _).F (k := 3) rfl _).F (k := 4) rfl _).F (k := 6) rfl _).F (k := 5) rfl _
    have c19 : ∀ n m r4 r6 k5 : Nat, (CS σd bx n m r4 r6 k5).1 19 = nI R.length := fun _ _ _ _ _ => d19
    have c15 : ∀ n m r4 r6 k5 : Nat, (CS σd bx n m r4 r6 k5).1 15 = nI (allC R).length := fun _ _ _ _ _ => d15
    have last : ∀ (q r : Nat) (o4 : Option Value), r ≤ R.length → R.length - r < q → X κ (tG (kE κ) θ (CS σd bx R.length (allC R).length (if r = 0 then 0 else r + 1) r (4 * r))) 0 0 179 [some (.ref θ.1), some (.int b), some (.int z2), some (.int (nI r)), o4] [] := by
      intro q
      induction q with
      | zero => intro r o4 h1 h2; omega
      | succ q ih =>
        intro r o4 hrR hq
        have inner : r < R.length → ∀ (q k : Nat), k ≤ 4 → 4 - k < q → X κ (tG (kE κ) θ (CS σd bx R.length (allC R).length (r + 2) (r + 1) (4 * r + k))) 0 0 245 [some (.ref θ.1), some (.int b), some (.int z2), some (.int (nI r)), some (.int (nI k))] [] := by
          intro hrl2 q
          induction q with
          | zero => intro k h1 h2; omega
          | succ q ihk =>
            intro k hk hq
            refine x_iload hκ dX8_rules_245 rfl ?_
            refine x_iconst (v := 4) hκ dX8_rules_247 (by decide) ?_
            refine x_icmp_ge (tgt := 284) hκ dX8_rules_248 (by decide) (fun c248 => ?_) (fun c248 => ?_)
            · -- X8_rules 248T
              have i248 := c248
              simp (disch := omega) only [i32_lt, i32_le, i32_eq, Int32.reduceToInt, nI_toInt] at i248
              refine x_iincN (y := 1) hκ dX8_rules_284 (by decide) rfl (by rw [hL]; decide) rfl (by (try simp (disch := omega) only [tS_1, tS_2, tA_1, tA_2, tF_1, tF_2, xl_0, xl_1, xl_2, Nat.reduceEqDiff, ↓reduceIte, nI_add, nI_1, nm_2, nm_3, nm_4, nm_6, nm_7, nm_8, nm_12, nm_16, nm_24, nm_40, nm_180, nm_300, nm_10210, na_0, na_2, na_3, na_4, na_5, na_6, na_7, na_8, nm_p, nm_m, nI_clamp, eb]); exact rfl) ?_
              refine x_goto (tgt := 179) hκ dX8_rules_287 (by decide) ?_
              obtain rfl : k = 4 := by omega
              have hx := ih (r + 1) (some (.int (nI 4))) (by omega) (by omega)
              rw [if_neg (by omega)] at hx
              exact hx
            · -- X8_rules 248F
              have i248 := c248
              simp (disch := omega) only [i32_lt, i32_le, i32_eq, Int32.reduceToInt, nI_toInt] at i248
              refine x_aload_n hκ dX8_rules_251 rfl ?_
              refine t_getA hκ fl8_5 (by decide) (by decide) rfl dX8_rules_252 ?_
              refine x_bipush (v := 24) hκ dX8_rules_255 (by decide) ?_
              refine x_iload_n hκ dX8_rules_257 rfl ?_
              refine x_imulN hκ (by (try simp (disch := omega) only [tS_1, tS_2, tA_1, tA_2, tF_1, tF_2, xl_0, xl_1, xl_2, Nat.reduceEqDiff, ↓reduceIte, nI_add, nI_1, nm_2, nm_3, nm_4, nm_6, nm_7, nm_8, nm_12, nm_16, nm_24, nm_40, nm_180, nm_300, nm_10210, na_0, na_2, na_3, na_4, na_5, na_6, na_7, na_8, nm_p, nm_m, nI_clamp, eb]); exact rfl) dX8_rules_258 ?_
              refine x_iconst (v := 4) hκ dX8_rules_259 (by decide) ?_
              refine x_iload_n hκ dX8_rules_260 rfl ?_
              refine x_imulN hκ (by (try simp (disch := omega) only [tS_1, tS_2, tA_1, tA_2, tF_1, tF_2, xl_0, xl_1, xl_2, Nat.reduceEqDiff, ↓reduceIte, nI_add, nI_1, nm_2, nm_3, nm_4, nm_6, nm_7, nm_8, nm_12, nm_16, nm_24, nm_40, nm_180, nm_300, nm_10210, na_0, na_2, na_3, na_4, na_5, na_6, na_7, na_8, nm_p, nm_m, nI_clamp, eb]); exact rfl) dX8_rules_261 ?_
              refine x_iaddN hκ (by (try simp (disch := omega) only [tS_1, tS_2, tA_1, tA_2, tF_1, tF_2, xl_0, xl_1, xl_2, Nat.reduceEqDiff, ↓reduceIte, nI_add, nI_1, nm_2, nm_3, nm_4, nm_6, nm_7, nm_8, nm_12, nm_16, nm_24, nm_40, nm_180, nm_300, nm_10210, na_0, na_2, na_3, na_4, na_5, na_6, na_7, na_8, nm_p, nm_m, nI_clamp, eb]); exact rfl) dX8_rules_262 ?_
              refine x_iload hκ dX8_rules_263 rfl ?_
              refine x_iaddN hκ (by (try simp (disch := omega) only [tS_1, tS_2, tA_1, tA_2, tF_1, tF_2, xl_0, xl_1, xl_2, Nat.reduceEqDiff, ↓reduceIte, nI_add, nI_1, nm_2, nm_3, nm_4, nm_6, nm_7, nm_8, nm_12, nm_16, nm_24, nm_40, nm_180, nm_300, nm_10210, na_0, na_2, na_3, na_4, na_5, na_6, na_7, na_8, nm_p, nm_m, nI_clamp, eb]); exact rfl) dX8_rules_265 ?_
              refine x_aload_n hκ dX8_rules_266 rfl ?_
              refine t_getA hκ fl8_17 (by decide) (by decide) rfl dX8_rules_267 ?_
              refine x_iconst (v := 4) hκ dX8_rules_270 (by decide) ?_
              refine x_iload_n hκ dX8_rules_271 rfl ?_
              refine x_imulN hκ (by (try simp (disch := omega) only [tS_1, tS_2, tA_1, tA_2, tF_1, tF_2, xl_0, xl_1, xl_2, Nat.reduceEqDiff, ↓reduceIte, nI_add, nI_1, nm_2, nm_3, nm_4, nm_6, nm_7, nm_8, nm_12, nm_16, nm_24, nm_40, nm_180, nm_300, nm_10210, na_0, na_2, na_3, na_4, na_5, na_6, na_7, na_8, nm_p, nm_m, nI_clamp, eb]); exact rfl) dX8_rules_272 ?_
              refine x_iload hκ dX8_rules_273 rfl ?_
              refine x_iaddN hκ (by (try simp (disch := omega) only [tS_1, tS_2, tA_1, tA_2, tF_1, tF_2, xl_0, xl_1, xl_2, Nat.reduceEqDiff, ↓reduceIte, nI_add, nI_1, nm_2, nm_3, nm_4, nm_6, nm_7, nm_8, nm_12, nm_16, nm_24, nm_40, nm_180, nm_300, nm_10210, na_0, na_2, na_3, na_4, na_5, na_6, na_7, na_8, nm_p, nm_m, nI_clamp, eb]); exact rfl) dX8_rules_275 ?_
              refine t_iald (n := 24) hκ hθ (by decide) rfl rfl (by first | ((with_reducible refine vp_in_nI ?_ ?_) <;> omega) | exact i32_in (by omega) (by omega) | exact i32_in' (by simp only [Int32.toInt_add, Int32.toInt_mul, Int32.toInt_sub, Int32.reduceToInt, Int.bmod_add_bmod, Int.bmod_sub_bmod, Int.add_bmod_bmod, Int.sub_bmod_bmod, Int.bmod_mul_bmod, Int.mul_bmod_bmod]; exact i32_bm (by omega) (by omega)) (by omega) (by omega) | exact i32_in (by decide) (by decide)) (by (try simp (disch := omega) only [tS_1, tS_2, tA_1, tA_2, tF_1, tF_2, xl_0, xl_1, xl_2, Nat.reduceEqDiff, ↓reduceIte, nI_add, nI_1, nm_2, nm_3, nm_4, nm_6, nm_7, nm_8, nm_12, nm_16, nm_24, nm_40, nm_180, nm_300, nm_10210, na_0, na_2, na_3, na_4, na_5, na_6, na_7, na_8, nm_p, nm_m, nI_clamp, eb]); exact rfl) dX8_rules_276 ?_
              refine t_iast (n := 72) hκ hθ (by decide) rfl rfl (by first | ((with_reducible refine vp_in_nI ?_ ?_) <;> omega) | exact i32_in (by omega) (by omega) | exact i32_in' (by simp only [Int32.toInt_add, Int32.toInt_mul, Int32.toInt_sub, Int32.reduceToInt, Int.bmod_add_bmod, Int.bmod_sub_bmod, Int.add_bmod_bmod, Int.sub_bmod_bmod, Int.bmod_mul_bmod, Int.mul_bmod_bmod]; exact i32_bm (by omega) (by omega)) (by omega) (by omega) | exact i32_in (by decide) (by decide)) (by (try simp (disch := omega) only [tS_1, tS_2, tA_1, tA_2, tF_1, tF_2, xl_0, xl_1, xl_2, Nat.reduceEqDiff, ↓reduceIte, nI_add, nI_1, nm_2, nm_3, nm_4, nm_6, nm_7, nm_8, nm_12, nm_16, nm_24, nm_40, nm_180, nm_300, nm_10210, na_0, na_2, na_3, na_4, na_5, na_6, na_7, na_8, nm_p, nm_m, nI_clamp, eb]); exact rfl) dX8_rules_277 ?_
              refine x_iincN (y := 1) hκ dX8_rules_278 (by decide) rfl (by rw [hL]; decide) rfl (by (try simp (disch := omega) only [tS_1, tS_2, tA_1, tA_2, tF_1, tF_2, xl_0, xl_1, xl_2, Nat.reduceEqDiff, ↓reduceIte, nI_add, nI_1, nm_2, nm_3, nm_4, nm_6, nm_7, nm_8, nm_12, nm_16, nm_24, nm_40, nm_180, nm_300, nm_10210, na_0, na_2, na_3, na_4, na_5, na_6, na_7, na_8, nm_p, nm_m, nI_clamp, eb]); exact rfl) ?_
              refine x_goto (tgt := 245) hκ dX8_rules_281 (by decide) ?_
              have hx := ihk (k + 1) (by omega) (by omega)
              rw [← Nat.add_assoc, ← CS_5] at hx
              rw [show 24 * bx + 4 * r + k = 24 * bx + (4 * r + k) by omega]
              exact hx
        refine x_iload_n hκ dX8_rules_179 rfl ?_
        refine x_aload_n hκ dX8_rules_180 rfl ?_
        refine t_get hκ fl8_19 (by decide) (by decide) rfl (by (try simp (disch := omega) only [tS_1, tS_2, tA_1, tA_2, tF_1, tF_2, xl_0, xl_1, xl_2, Nat.reduceEqDiff, ↓reduceIte, nI_add, nI_1, nm_2, nm_3, nm_4, nm_6, nm_7, nm_8, nm_12, nm_16, nm_24, nm_40, nm_180, nm_300, nm_10210, na_0, na_2, na_3, na_4, na_5, na_6, na_7, na_8, nm_p, nm_m, nI_clamp, eb, c19]); exact rfl) dX8_rules_181 ?_
        refine x_icmp_ge (tgt := 290) hκ dX8_rules_184 (by decide) (fun c184 => ?_) (fun c184 => ?_)
        · -- X8_rules 184T
          have i184 := c184
          simp (disch := omega) only [i32_lt, i32_le, i32_eq, Int32.reduceToInt, nI_toInt] at i184
          skip
          refine x_aload_n hκ dX8_rules_290 rfl ?_
          refine t_get hκ fl8_19 (by decide) (by decide) rfl (by (try simp (disch := omega) only [tS_1, tS_2, tA_1, tA_2, tF_1, tF_2, xl_0, xl_1, xl_2, Nat.reduceEqDiff, ↓reduceIte, nI_add, nI_1, nm_2, nm_3, nm_4, nm_6, nm_7, nm_8, nm_12, nm_16, nm_24, nm_40, nm_180, nm_300, nm_10210, na_0, na_2, na_3, na_4, na_5, na_6, na_7, na_8, nm_p, nm_m, nI_clamp, c19]); exact rfl) dX8_rules_291 ?_
          refine t_reti hκ hr rfl dX8_rules_294 ?_
          obtain rfl : r = R.length := by omega
          refine ⟨fun z => absurd hin z, fun _ => ⟨fun p hp => (by rw [hrl] at hp; cases hp), fun R' hp => ?_⟩⟩
          rw [hrl] at hp
          cases hp
          rw [hbx]
          have hl0 : ¬ R.length = 0 := fun z => hne (List.length_eq_zero_iff.mp z)
          rw [if_neg hl0]
          refine ⟨rfl, hF _ _ _ _ _, ?_, hRI.RV hne h6 h90, fun b' R' hb' hnb hR' => ?_⟩
          · show σd.1 1 = 0
            rw [(hFr 1 rfl).1]
            rfl
          · exact CS_RV (hFr.RV hR') hnb h90 (by omega) h6 (by omega)
        · -- X8_rules 184F
          have i184 := c184
          simp (disch := omega) only [i32_lt, i32_le, i32_eq, Int32.reduceToInt, nI_toInt] at i184
          skip
          have e1 : tA (CS σd bx R.length (allC R).length (if r = 0 then 0 else r + 1) r (4 * r)) 4 (7 * bx + r) (σd.2 16 r) = CS σd bx R.length (allC R).length (r + 1) r (4 * r) := by
            by_cases h0 : r = 0
            · rw [if_pos h0, h0]; exact CS_4s
            · rw [if_neg h0]; exact CS_4 (by omega)
          refine x_aload_n hκ dX8_rules_187 rfl ?_
          refine t_getA hκ fl8_4 (by decide) (by decide) rfl dX8_rules_188 ?_
          refine x_bipush (v := 7) hκ dX8_rules_191 (by decide) ?_
          refine x_iload_n hκ dX8_rules_193 rfl ?_
          refine x_imulN hκ (by (try simp (disch := omega) only [tS_1, tS_2, tA_1, tA_2, tF_1, tF_2, xl_0, xl_1, xl_2, Nat.reduceEqDiff, ↓reduceIte, nI_add, nI_1, nm_2, nm_3, nm_4, nm_6, nm_7, nm_8, nm_12, nm_16, nm_24, nm_40, nm_180, nm_300, nm_10210, na_0, na_2, na_3, na_4, na_5, na_6, na_7, na_8, nm_p, nm_m, nI_clamp, eb, c19]); exact rfl) dX8_rules_194 ?_
          refine x_iload_n hκ dX8_rules_195 rfl ?_
          refine x_iaddN hκ (by (try simp (disch := omega) only [tS_1, tS_2, tA_1, tA_2, tF_1, tF_2, xl_0, xl_1, xl_2, Nat.reduceEqDiff, ↓reduceIte, nI_add, nI_1, nm_2, nm_3, nm_4, nm_6, nm_7, nm_8, nm_12, nm_16, nm_24, nm_40, nm_180, nm_300, nm_10210, na_0, na_2, na_3, na_4, na_5, na_6, na_7, na_8, nm_p, nm_m, nI_clamp, eb, c19]); exact rfl) dX8_rules_196 ?_
          refine x_aload_n hκ dX8_rules_197 rfl ?_
          refine t_getA hκ fl8_16 (by decide) (by decide) rfl dX8_rules_198 ?_
          refine x_iload_n hκ dX8_rules_201 rfl ?_
          refine t_iald (n := 7) hκ hθ (by decide) rfl rfl (by first | ((with_reducible refine vp_in_nI ?_ ?_) <;> omega) | exact i32_in (by omega) (by omega) | exact i32_in' (by simp only [Int32.toInt_add, Int32.toInt_mul, Int32.toInt_sub, Int32.reduceToInt, Int.bmod_add_bmod, Int.bmod_sub_bmod, Int.add_bmod_bmod, Int.sub_bmod_bmod, Int.bmod_mul_bmod, Int.mul_bmod_bmod]; exact i32_bm (by omega) (by omega)) (by omega) (by omega) | exact i32_in (by decide) (by decide)) (by (try simp (disch := omega) only [tS_1, tS_2, tA_1, tA_2, tF_1, tF_2, xl_0, xl_1, xl_2, Nat.reduceEqDiff, ↓reduceIte, nI_add, nI_1, nm_2, nm_3, nm_4, nm_6, nm_7, nm_8, nm_12, nm_16, nm_24, nm_40, nm_180, nm_300, nm_10210, na_0, na_2, na_3, na_4, na_5, na_6, na_7, na_8, nm_p, nm_m, nI_clamp, eb, c19]); exact rfl) dX8_rules_202 ?_
          refine t_iast (n := 21) hκ hθ (by decide) rfl rfl (by first | ((with_reducible refine vp_in_nI ?_ ?_) <;> omega) | exact i32_in (by omega) (by omega) | exact i32_in' (by simp only [Int32.toInt_add, Int32.toInt_mul, Int32.toInt_sub, Int32.reduceToInt, Int.bmod_add_bmod, Int.bmod_sub_bmod, Int.add_bmod_bmod, Int.sub_bmod_bmod, Int.bmod_mul_bmod, Int.mul_bmod_bmod]; exact i32_bm (by omega) (by omega)) (by omega) (by omega) | exact i32_in (by decide) (by decide)) (by (try simp (disch := omega) only [tS_1, tS_2, tA_1, tA_2, tF_1, tF_2, xl_0, xl_1, xl_2, Nat.reduceEqDiff, ↓reduceIte, nI_add, nI_1, nm_2, nm_3, nm_4, nm_6, nm_7, nm_8, nm_12, nm_16, nm_24, nm_40, nm_180, nm_300, nm_10210, na_0, na_2, na_3, na_4, na_5, na_6, na_7, na_8, nm_p, nm_m, nI_clamp, eb, c19]); exact rfl) dX8_rules_203 ?_
          have e2 : X κ (tG (kE κ) θ (CS σd bx R.length (allC R).length (r + 1) r (4 * r))) 0 0 204 [some (.ref θ.1), some (.int b), some (.int z2), some (.int (nI r)), o4] [] := by
            skip
            refine x_aload_n hκ dX8_rules_204 rfl ?_
            refine t_getA hκ fl8_4 (by decide) (by decide) rfl dX8_rules_205 ?_
            refine x_bipush (v := 7) hκ dX8_rules_208 (by decide) ?_
            refine x_iload_n hκ dX8_rules_210 rfl ?_
            refine x_imulN hκ (by (try simp (disch := omega) only [tS_1, tS_2, tA_1, tA_2, tF_1, tF_2, xl_0, xl_1, xl_2, Nat.reduceEqDiff, ↓reduceIte, nI_add, nI_1, nm_2, nm_3, nm_4, nm_6, nm_7, nm_8, nm_12, nm_16, nm_24, nm_40, nm_180, nm_300, nm_10210, na_0, na_2, na_3, na_4, na_5, na_6, na_7, na_8, nm_p, nm_m, nI_clamp, eb, c19]); exact rfl) dX8_rules_211 ?_
            refine x_iload_n hκ dX8_rules_212 rfl ?_
            refine x_iaddN hκ (by (try simp (disch := omega) only [tS_1, tS_2, tA_1, tA_2, tF_1, tF_2, xl_0, xl_1, xl_2, Nat.reduceEqDiff, ↓reduceIte, nI_add, nI_1, nm_2, nm_3, nm_4, nm_6, nm_7, nm_8, nm_12, nm_16, nm_24, nm_40, nm_180, nm_300, nm_10210, na_0, na_2, na_3, na_4, na_5, na_6, na_7, na_8, nm_p, nm_m, nI_clamp, eb, c19]); exact rfl) dX8_rules_213 ?_
            refine x_iconst (v := 1) hκ dX8_rules_214 (by decide) ?_
            refine x_iaddN hκ (by (try simp (disch := omega) only [tS_1, tS_2, tA_1, tA_2, tF_1, tF_2, xl_0, xl_1, xl_2, Nat.reduceEqDiff, ↓reduceIte, nI_add, nI_1, nm_2, nm_3, nm_4, nm_6, nm_7, nm_8, nm_12, nm_16, nm_24, nm_40, nm_180, nm_300, nm_10210, na_0, na_2, na_3, na_4, na_5, na_6, na_7, na_8, nm_p, nm_m, nI_clamp, eb, c19]); exact rfl) dX8_rules_215 ?_
            refine x_aload_n hκ dX8_rules_216 rfl ?_
            refine t_getA hκ fl8_16 (by decide) (by decide) rfl dX8_rules_217 ?_
            refine x_iload_n hκ dX8_rules_220 rfl ?_
            refine x_iconst (v := 1) hκ dX8_rules_221 (by decide) ?_
            refine x_iaddN hκ (by (try simp (disch := omega) only [tS_1, tS_2, tA_1, tA_2, tF_1, tF_2, xl_0, xl_1, xl_2, Nat.reduceEqDiff, ↓reduceIte, nI_add, nI_1, nm_2, nm_3, nm_4, nm_6, nm_7, nm_8, nm_12, nm_16, nm_24, nm_40, nm_180, nm_300, nm_10210, na_0, na_2, na_3, na_4, na_5, na_6, na_7, na_8, nm_p, nm_m, nI_clamp, eb, c19]); exact rfl) dX8_rules_222 ?_
            refine t_iald (n := 7) hκ hθ (by decide) rfl rfl (by first | ((with_reducible refine vp_in_nI ?_ ?_) <;> omega) | exact i32_in (by omega) (by omega) | exact i32_in' (by simp only [Int32.toInt_add, Int32.toInt_mul, Int32.toInt_sub, Int32.reduceToInt, Int.bmod_add_bmod, Int.bmod_sub_bmod, Int.add_bmod_bmod, Int.sub_bmod_bmod, Int.bmod_mul_bmod, Int.mul_bmod_bmod]; exact i32_bm (by omega) (by omega)) (by omega) (by omega) | exact i32_in (by decide) (by decide)) (by (try simp (disch := omega) only [tS_1, tS_2, tA_1, tA_2, tF_1, tF_2, xl_0, xl_1, xl_2, Nat.reduceEqDiff, ↓reduceIte, nI_add, nI_1, nm_2, nm_3, nm_4, nm_6, nm_7, nm_8, nm_12, nm_16, nm_24, nm_40, nm_180, nm_300, nm_10210, na_0, na_2, na_3, na_4, na_5, na_6, na_7, na_8, nm_p, nm_m, nI_clamp, eb, c19]); exact rfl) dX8_rules_223 ?_
            refine t_iast (n := 21) hκ hθ (by decide) rfl rfl (by first | ((with_reducible refine vp_in_nI ?_ ?_) <;> omega) | exact i32_in (by omega) (by omega) | exact i32_in' (by simp only [Int32.toInt_add, Int32.toInt_mul, Int32.toInt_sub, Int32.reduceToInt, Int.bmod_add_bmod, Int.bmod_sub_bmod, Int.add_bmod_bmod, Int.sub_bmod_bmod, Int.bmod_mul_bmod, Int.mul_bmod_bmod]; exact i32_bm (by omega) (by omega)) (by omega) (by omega) | exact i32_in (by decide) (by decide)) (by (try simp (disch := omega) only [tS_1, tS_2, tA_1, tA_2, tF_1, tF_2, xl_0, xl_1, xl_2, Nat.reduceEqDiff, ↓reduceIte, nI_add, nI_1, nm_2, nm_3, nm_4, nm_6, nm_7, nm_8, nm_12, nm_16, nm_24, nm_40, nm_180, nm_300, nm_10210, na_0, na_2, na_3, na_4, na_5, na_6, na_7, na_8, nm_p, nm_m, nI_clamp, eb, c19]); exact rfl) dX8_rules_224 ?_
            have e3 : X κ (tG (kE κ) θ (CS σd bx R.length (allC R).length (r + 2) r (4 * r))) 0 0 225 [some (.ref θ.1), some (.int b), some (.int z2), some (.int (nI r)), o4] [] := by
              skip
              refine x_aload_n hκ dX8_rules_225 rfl ?_
              refine t_getA hκ fl8_6 (by decide) (by decide) rfl dX8_rules_226 ?_
              refine x_bipush (v := 6) hκ dX8_rules_229 (by decide) ?_
              refine x_iload_n hκ dX8_rules_231 rfl ?_
              refine x_imulN hκ (by (try simp (disch := omega) only [tS_1, tS_2, tA_1, tA_2, tF_1, tF_2, xl_0, xl_1, xl_2, Nat.reduceEqDiff, ↓reduceIte, nI_add, nI_1, nm_2, nm_3, nm_4, nm_6, nm_7, nm_8, nm_12, nm_16, nm_24, nm_40, nm_180, nm_300, nm_10210, na_0, na_2, na_3, na_4, na_5, na_6, na_7, na_8, nm_p, nm_m, nI_clamp, eb]); exact rfl) dX8_rules_232 ?_
              refine x_iload_n hκ dX8_rules_233 rfl ?_
              refine x_iaddN hκ (by (try simp (disch := omega) only [tS_1, tS_2, tA_1, tA_2, tF_1, tF_2, xl_0, xl_1, xl_2, Nat.reduceEqDiff, ↓reduceIte, nI_add, nI_1, nm_2, nm_3, nm_4, nm_6, nm_7, nm_8, nm_12, nm_16, nm_24, nm_40, nm_180, nm_300, nm_10210, na_0, na_2, na_3, na_4, na_5, na_6, na_7, na_8, nm_p, nm_m, nI_clamp, eb]); exact rfl) dX8_rules_234 ?_
              refine x_aload_n hκ dX8_rules_235 rfl ?_
              refine t_getA hκ fl8_18 (by decide) (by decide) rfl dX8_rules_236 ?_
              refine x_iload_n hκ dX8_rules_239 rfl ?_
              refine t_iald (n := 6) hκ hθ (by decide) rfl rfl (by first | ((with_reducible refine vp_in_nI ?_ ?_) <;> omega) | exact i32_in (by omega) (by omega) | exact i32_in' (by simp only [Int32.toInt_add, Int32.toInt_mul, Int32.toInt_sub, Int32.reduceToInt, Int.bmod_add_bmod, Int.bmod_sub_bmod, Int.add_bmod_bmod, Int.sub_bmod_bmod, Int.bmod_mul_bmod, Int.mul_bmod_bmod]; exact i32_bm (by omega) (by omega)) (by omega) (by omega) | exact i32_in (by decide) (by decide)) (by (try simp (disch := omega) only [tS_1, tS_2, tA_1, tA_2, tF_1, tF_2, xl_0, xl_1, xl_2, Nat.reduceEqDiff, ↓reduceIte, nI_add, nI_1, nm_2, nm_3, nm_4, nm_6, nm_7, nm_8, nm_12, nm_16, nm_24, nm_40, nm_180, nm_300, nm_10210, na_0, na_2, na_3, na_4, na_5, na_6, na_7, na_8, nm_p, nm_m, nI_clamp, eb]); exact rfl) dX8_rules_240 ?_
              refine t_iast (n := 18) hκ hθ (by decide) rfl rfl (by first | ((with_reducible refine vp_in_nI ?_ ?_) <;> omega) | exact i32_in (by omega) (by omega) | exact i32_in' (by simp only [Int32.toInt_add, Int32.toInt_mul, Int32.toInt_sub, Int32.reduceToInt, Int.bmod_add_bmod, Int.bmod_sub_bmod, Int.add_bmod_bmod, Int.sub_bmod_bmod, Int.bmod_mul_bmod, Int.mul_bmod_bmod]; exact i32_bm (by omega) (by omega)) (by omega) (by omega) | exact i32_in (by decide) (by decide)) (by (try simp (disch := omega) only [tS_1, tS_2, tA_1, tA_2, tF_1, tF_2, xl_0, xl_1, xl_2, Nat.reduceEqDiff, ↓reduceIte, nI_add, nI_1, nm_2, nm_3, nm_4, nm_6, nm_7, nm_8, nm_12, nm_16, nm_24, nm_40, nm_180, nm_300, nm_10210, na_0, na_2, na_3, na_4, na_5, na_6, na_7, na_8, nm_p, nm_m, nI_clamp, eb]); exact rfl) dX8_rules_241 ?_
              refine x_iconst (v := 0) hκ dX8_rules_242 (by decide) ?_
              refine x_istore hκ dX8_rules_243 (by rw [hL]; decide) rfl ?_
              have hx := inner (by omega) 5 0 (by omega) (by omega)
              rw [← CS_6] at hx
              exact hx
            rw [← CS_4s] at e3
            exact e3
          rw [← e1] at e2
          exact e2
    have first : ∀ (q k : Nat) (o4 : Option Value), k ≤ (allC R).length → (allC R).length - k < q → X κ (tG (kE κ) θ (CS σd bx R.length k 0 0 0)) 0 0 145 [some (.ref θ.1), some (.int b), some (.int z2), some (.int (nI k)), o4] [] := by
      intro q
      induction q with
      | zero => intro k o4 h1 h2; omega
      | succ q ih =>
        intro k o4 hk hq
        refine x_iload_n hκ dX8_rules_145 rfl ?_
        refine x_aload_n hκ dX8_rules_146 rfl ?_
        refine t_get hκ fl8_15 (by decide) (by decide) rfl (by (try simp (disch := omega) only [tS_1, tS_2, tA_1, tA_2, tF_1, tF_2, xl_0, xl_1, xl_2, Nat.reduceEqDiff, ↓reduceIte, nI_add, nI_1, nm_2, nm_3, nm_4, nm_6, nm_7, nm_8, nm_12, nm_16, nm_24, nm_40, nm_180, nm_300, nm_10210, na_0, na_2, na_3, na_4, na_5, na_6, na_7, na_8, nm_p, nm_m, nI_clamp, eb, c15]); exact rfl) dX8_rules_147 ?_
        refine x_icmp_ge (tgt := 177) hκ dX8_rules_150 (by decide) (fun c150 => ?_) (fun c150 => ?_)
        · -- X8_rules 150T
          have i150 := c150
          simp (disch := omega) only [i32_lt, i32_le, i32_eq, Int32.reduceToInt, nI_toInt] at i150
          refine x_iconst (v := 0) hκ dX8_rules_177 (by decide) ?_
          refine x_istore_n hκ dX8_rules_178 (by rw [hL]; decide) rfl ?_
          obtain rfl : k = (allC R).length := by omega
          exact last (R.length + 1) 0 o4 (by omega) (by omega)
        · -- X8_rules 150F
          have i150 := c150
          simp (disch := omega) only [i32_lt, i32_le, i32_eq, Int32.reduceToInt, nI_toInt] at i150
          refine x_aload_n hκ dX8_rules_153 rfl ?_
          refine t_getA hκ fl8_3 (by decide) (by decide) rfl dX8_rules_154 ?_
          refine x_sipush (v := 180) hκ dX8_rules_157 (by decide) ?_
          refine x_iload_n hκ dX8_rules_160 rfl ?_
          refine x_imulN hκ (by (try simp (disch := omega) only [tS_1, tS_2, tA_1, tA_2, tF_1, tF_2, xl_0, xl_1, xl_2, Nat.reduceEqDiff, ↓reduceIte, nI_add, nI_1, nm_2, nm_3, nm_4, nm_6, nm_7, nm_8, nm_12, nm_16, nm_24, nm_40, nm_180, nm_300, nm_10210, na_0, na_2, na_3, na_4, na_5, na_6, na_7, na_8, nm_p, nm_m, nI_clamp, eb, c15]); exact rfl) dX8_rules_161 ?_
          refine x_iload_n hκ dX8_rules_162 rfl ?_
          refine x_iaddN hκ (by (try simp (disch := omega) only [tS_1, tS_2, tA_1, tA_2, tF_1, tF_2, xl_0, xl_1, xl_2, Nat.reduceEqDiff, ↓reduceIte, nI_add, nI_1, nm_2, nm_3, nm_4, nm_6, nm_7, nm_8, nm_12, nm_16, nm_24, nm_40, nm_180, nm_300, nm_10210, na_0, na_2, na_3, na_4, na_5, na_6, na_7, na_8, nm_p, nm_m, nI_clamp, eb, c15]); exact rfl) dX8_rules_163 ?_
          refine x_aload_n hκ dX8_rules_164 rfl ?_
          refine t_getA hκ fl8_14 (by decide) (by decide) rfl dX8_rules_165 ?_
          refine x_iload_n hκ dX8_rules_168 rfl ?_
          refine t_iald (n := 180) hκ hθ (by decide) rfl rfl (by first | ((with_reducible refine vp_in_nI ?_ ?_) <;> omega) | exact i32_in (by omega) (by omega) | exact i32_in' (by simp only [Int32.toInt_add, Int32.toInt_mul, Int32.toInt_sub, Int32.reduceToInt, Int.bmod_add_bmod, Int.bmod_sub_bmod, Int.add_bmod_bmod, Int.sub_bmod_bmod, Int.bmod_mul_bmod, Int.mul_bmod_bmod]; exact i32_bm (by omega) (by omega)) (by omega) (by omega) | exact i32_in (by decide) (by decide)) (by (try simp (disch := omega) only [tS_1, tS_2, tA_1, tA_2, tF_1, tF_2, xl_0, xl_1, xl_2, Nat.reduceEqDiff, ↓reduceIte, nI_add, nI_1, nm_2, nm_3, nm_4, nm_6, nm_7, nm_8, nm_12, nm_16, nm_24, nm_40, nm_180, nm_300, nm_10210, na_0, na_2, na_3, na_4, na_5, na_6, na_7, na_8, nm_p, nm_m, nI_clamp, eb, c15]); exact rfl) dX8_rules_169 ?_
          refine t_iast (n := 540) hκ hθ (by decide) rfl rfl (by first | ((with_reducible refine vp_in_nI ?_ ?_) <;> omega) | exact i32_in (by omega) (by omega) | exact i32_in' (by simp only [Int32.toInt_add, Int32.toInt_mul, Int32.toInt_sub, Int32.reduceToInt, Int.bmod_add_bmod, Int.bmod_sub_bmod, Int.add_bmod_bmod, Int.sub_bmod_bmod, Int.bmod_mul_bmod, Int.mul_bmod_bmod]; exact i32_bm (by omega) (by omega)) (by omega) (by omega) | exact i32_in (by decide) (by decide)) (by (try simp (disch := omega) only [tS_1, tS_2, tA_1, tA_2, tF_1, tF_2, xl_0, xl_1, xl_2, Nat.reduceEqDiff, ↓reduceIte, nI_add, nI_1, nm_2, nm_3, nm_4, nm_6, nm_7, nm_8, nm_12, nm_16, nm_24, nm_40, nm_180, nm_300, nm_10210, na_0, na_2, na_3, na_4, na_5, na_6, na_7, na_8, nm_p, nm_m, nI_clamp, eb, c15]); exact rfl) dX8_rules_170 ?_
          refine x_iincN (y := 1) hκ dX8_rules_171 (by decide) rfl (by rw [hL]; decide) rfl (by (try simp (disch := omega) only [tS_1, tS_2, tA_1, tA_2, tF_1, tF_2, xl_0, xl_1, xl_2, Nat.reduceEqDiff, ↓reduceIte, nI_add, nI_1, nm_2, nm_3, nm_4, nm_6, nm_7, nm_8, nm_12, nm_16, nm_24, nm_40, nm_180, nm_300, nm_10210, na_0, na_2, na_3, na_4, na_5, na_6, na_7, na_8, nm_p, nm_m, nI_clamp, eb, c15]); exact rfl) ?_
          refine x_goto (tgt := 145) hκ dX8_rules_174 (by decide) ?_
          have hx := ih (k + 1) o4 (by omega) (by omega)
          rw [← CS_3] at hx
          exact hx
    refine x_aload_n hκ dX8_rules_133 rfl ?_
    refine t_getA hκ fl8_2 (by decide) (by decide) rfl dX8_rules_134 ?_
    refine x_iload_n hκ dX8_rules_137 rfl ?_
    refine x_aload_n hκ dX8_rules_138 rfl ?_
    refine t_get hκ fl8_19 (by decide) (by decide) rfl (by (try simp (disch := omega) only [tS_1, tS_2, tA_1, tA_2, tF_1, tF_2, xl_0, xl_1, xl_2, Nat.reduceEqDiff, ↓reduceIte, nI_add, nI_1, nm_2, nm_3, nm_4, nm_6, nm_7, nm_8, nm_12, nm_16, nm_24, nm_40, nm_180, nm_300, nm_10210, na_0, na_2, na_3, na_4, na_5, na_6, na_7, na_8, nm_p, nm_m, nI_clamp, eb, d19]); exact rfl) dX8_rules_139 ?_
    refine t_iast (n := 3) hκ hθ (by decide) rfl rfl (by first | ((with_reducible refine vp_in_nI ?_ ?_) <;> omega) | exact i32_in (by omega) (by omega) | exact i32_in' (by simp only [Int32.toInt_add, Int32.toInt_mul, Int32.toInt_sub, Int32.reduceToInt, Int.bmod_add_bmod, Int.bmod_sub_bmod, Int.add_bmod_bmod, Int.sub_bmod_bmod, Int.bmod_mul_bmod, Int.mul_bmod_bmod]; exact i32_bm (by omega) (by omega)) (by omega) (by omega) | exact i32_in (by decide) (by decide)) (by (try simp (disch := omega) only [tS_1, tS_2, tA_1, tA_2, tF_1, tF_2, xl_0, xl_1, xl_2, Nat.reduceEqDiff, ↓reduceIte, nI_add, nI_1, nm_2, nm_3, nm_4, nm_6, nm_7, nm_8, nm_12, nm_16, nm_24, nm_40, nm_180, nm_300, nm_10210, na_0, na_2, na_3, na_4, na_5, na_6, na_7, na_8, nm_p, nm_m, nI_clamp, eb, d19]); exact rfl) dX8_rules_142 ?_
    refine x_iconst (v := 0) hκ dX8_rules_143 (by decide) ?_
    refine x_istore_n hκ dX8_rules_144 (by rw [hL]; decide) rfl ?_
    have hx := first ((allC R).length + 1) 0 o4 (by omega) (by omega)
    rw [CS_0] at hx
    exact hx
  -- behind the reading: a fault
  have J91f : ∀ (p : Nat) (σf : TS) (z2 : Int32), p ≤ 300 → σf.1 10 = nI p → Fr ruS σ σf → rls (σ.2 0) N 6 0 [] [] = .inl p → X κ (tG (kE κ) θ σf) 0 0 113 [some (.ref θ.1), some (.int b), some (.int z2), none, none] [] := by
    intro p σf z2 hp f10 hFr hrl
    refine x_aload_n hκ dX8_rules_113 rfl ?_
    refine x_iconst (v := 0) hκ dX8_rules_114 (by decide) ?_
    refine t_put hκ fl8_1 (by decide) (by decide) rfl rfl rfl dX8_rules_115 ?_
    refine x_aload_n hκ dX8_rules_118 rfl ?_
    refine t_get hκ fl8_10 (by decide) (by decide) rfl (by (try simp (disch := omega) only [tS_1, tS_2, tA_1, tA_2, tF_1, tF_2, xl_0, xl_1, xl_2, Nat.reduceEqDiff, ↓reduceIte, nI_add, nI_1, nm_2, nm_3, nm_4, nm_6, nm_7, nm_8, nm_12, nm_16, nm_24, nm_40, nm_180, nm_300, nm_10210, na_0, na_2, na_3, na_4, na_5, na_6, na_7, na_8, nm_p, nm_m, nI_clamp, f10]); exact rfl) dX8_rules_119 ?_
    refine x_if_lt (tgt := 133) hκ dX8_rules_122 (by decide) (fun c122 => ?_) (fun c122 => ?_)
    · -- X8_rules 122T
      have i122 := c122
      simp (disch := omega) only [i32_lt, i32_le, i32_eq, Int32.reduceToInt, nI_toInt] at i122
      exact absurd c122 (Int32.not_lt.mpr (nI_pos' (by omega)))
    · -- X8_rules 122F
      have i122 := c122
      simp (disch := omega) only [i32_lt, i32_le, i32_eq, Int32.reduceToInt, nI_toInt] at i122
      refine x_bipush (v := (-20)) hκ dX8_rules_125 (by decide) ?_
      refine x_aload_n hκ dX8_rules_127 rfl ?_
      refine t_get hκ fl8_10 (by decide) (by decide) rfl (by (try simp (disch := omega) only [tS_1, tS_2, tA_1, tA_2, tF_1, tF_2, xl_0, xl_1, xl_2, Nat.reduceEqDiff, ↓reduceIte, nI_add, nI_1, nm_2, nm_3, nm_4, nm_6, nm_7, nm_8, nm_12, nm_16, nm_24, nm_40, nm_180, nm_300, nm_10210, na_0, na_2, na_3, na_4, na_5, na_6, na_7, na_8, nm_p, nm_m, nI_clamp, f10]); exact rfl) dX8_rules_128 ?_
      refine x_isub hκ dX8_rules_131 ?_
      refine t_reti hκ hr rfl dX8_rules_132 ?_
      refine ⟨fun z => absurd hin z, fun _ => ⟨fun p' hp' => ?_, fun R' hp' => (by rw [hrl] at hp'; cases hp')⟩⟩
      rw [hrl] at hp'
      cases hp'
      refine ⟨rfl, fun k hk => ?_⟩
      have hk2 := hFr k (ruS_scr k hk)
      refine ⟨?_, hk2.2⟩
      show (if k = 1 then (0 : Int32) else σf.1 k) = (if k = 1 then (0 : Int32) else σ.1 k)
      split
      · rfl
      · exact hk2.1
  have main : ∀ (f a : Nat) (R : Rl) (σc : TS), R.length + f = 6 → 1 ≤ f → a ≤ 91 → (allC R).length ≤ a → RI R σc → Fr ruS σ σc → σc.1 9 = nI a → σc.1 10 = -1 → rls (σ.2 0) N f a (allC R) R = rls (σ.2 0) N 6 0 [] [] → X κ (tG (kE κ) θ σc) 0 0 31 [some (.ref θ.1), some (.int b), some (.int 1), none, none] [] := by
    intro f
    induction f with
    | zero => intro a R σc _ h1; omega
    | succ f ih =>
      intro a R σc hfl _ ha hoa hRI hFc c9 c10 hrls
      have k1 : σc.1 1 = nI N := by rw [(hFc 1 rfl).1]; exact hT
      have k0 : σc.2 0 = σ.2 0 := (hFc 0 rfl).2
      refine x_iload_n hκ dX8_rules_31 rfl ?_
      refine x_if_eq (tgt := 91) hκ dX8_rules_32 (by decide) (fun c32 => ?_) (fun c32 => ?_)
      · -- X8_rules 32T
        have i32 := c32
        simp (disch := omega) only [i32_lt, i32_le, i32_eq, Int32.reduceToInt, nI_toInt] at i32
        exact absurd c32 (by decide)
      · -- X8_rules 32F
        have i32 := c32
        simp (disch := omega) only [i32_lt, i32_le, i32_eq, Int32.reduceToInt, nI_toInt] at i32
        refine x_aload_n hκ dX8_rules_35 rfl ?_
        refine t_callv hκ (mX8_rule hθ (o := allC R) c9 k1 hN c10 hRI.1 (by omega) hRI.2.1 hRI.2.2.1 hoa ha) (by omega) (by decide) wX8_189 aX8_rule rfl (Nat.le_of_ble_eq_true rfl) dX8_rules_36 (fun σ36 h36 => ?_)
        rw [k0] at h36
        cases hrl : rl (σ.2 0) N a (allC R) with
        | inl p =>
          obtain ⟨hFa, a10, a19, b2, hb2, a9⟩ := h36.1 p hrl
          have hpp := rl_p hN ha hoa hrl
          rw [rls_l hrl] at hrls
          refine x_aload_n hκ dX8_rules_39 rfl ?_
          refine t_get hκ fl8_10 (by decide) (by decide) rfl (by (try simp (disch := omega) only [tS_1, tS_2, tA_1, tA_2, tF_1, tF_2, xl_0, xl_1, xl_2, Nat.reduceEqDiff, ↓reduceIte, nI_add, nI_1, nm_2, nm_3, nm_4, nm_6, nm_7, nm_8, nm_12, nm_16, nm_24, nm_40, nm_180, nm_300, nm_10210, na_0, na_2, na_3, na_4, na_5, na_6, na_7, na_8, nm_p, nm_m, nI_clamp, a10, a9]); exact rfl) dX8_rules_40 ?_
          refine x_if_ge (tgt := 68) hκ dX8_rules_43 (by decide) (fun c43 => ?_) (fun c43 => ?_)
          · -- X8_rules 43T
            have i43 := c43
            simp (disch := omega) only [i32_lt, i32_le, i32_eq, Int32.reduceToInt, nI_toInt] at i43
            refine x_iconst (v := 0) hκ dX8_rules_68 (by decide) ?_
            refine x_istore_n hκ dX8_rules_69 (by rw [hL]; decide) rfl ?_
            refine x_aload_n hκ dX8_rules_70 rfl ?_
            refine x_dup hκ dX8_rules_71 rfl ?_
            refine t_get hκ fl8_9 (by decide) (by decide) rfl (by (try simp (disch := omega) only [tS_1, tS_2, tA_1, tA_2, tF_1, tF_2, xl_0, xl_1, xl_2, Nat.reduceEqDiff, ↓reduceIte, nI_add, nI_1, nm_2, nm_3, nm_4, nm_6, nm_7, nm_8, nm_12, nm_16, nm_24, nm_40, nm_180, nm_300, nm_10210, na_0, na_2, na_3, na_4, na_5, na_6, na_7, na_8, nm_p, nm_m, nI_clamp, a10, a9]); exact rfl) dX8_rules_72 ?_
            refine x_iload_n hκ dX8_rules_75 rfl ?_
            refine x_if_eq (tgt := 83) hκ dX8_rules_76 (by decide) (fun c76 => ?_) (fun c76 => ?_)
            · -- X8_rules 76T
              have i76 := c76
              simp (disch := omega) only [i32_lt, i32_le, i32_eq, Int32.reduceToInt, nI_toInt] at i76
              refine x_iconst (v := 0) hκ dX8_rules_83 (by decide) ?_
              refine x_iaddN hκ (by (try simp (disch := omega) only [tS_1, tS_2, tA_1, tA_2, tF_1, tF_2, xl_0, xl_1, xl_2, Nat.reduceEqDiff, ↓reduceIte, nI_add, nI_1, nm_2, nm_3, nm_4, nm_6, nm_7, nm_8, nm_12, nm_16, nm_24, nm_40, nm_180, nm_300, nm_10210, na_0, na_2, na_3, na_4, na_5, na_6, na_7, na_8, nm_p, nm_m, nI_clamp, a10, a9]); exact rfl) dX8_rules_84 ?_
              refine t_put hκ fl8_9 (by decide) (by decide) rfl rfl rfl dX8_rules_85 ?_
              refine x_goto (tgt := 31) hκ dX8_rules_88 (by decide) ?_
              refine x_iload_n hκ dX8_rules_31 rfl ?_
              refine x_if_eq (tgt := 91) hκ dX8_rules_32 (by decide) (fun c32 => ?_) (fun c32 => ?_)
              · -- X8_rules 32T
                have i32 := c32
                simp (disch := omega) only [i32_lt, i32_le, i32_eq, Int32.reduceToInt, nI_toInt] at i32
                refine x_aload_n hκ dX8_rules_91 rfl ?_
                refine t_get hκ fl8_10 (by decide) (by decide) rfl (by (try simp (disch := omega) only [tS_1, tS_2, tA_1, tA_2, tF_1, tF_2, xl_0, xl_1, xl_2, Nat.reduceEqDiff, ↓reduceIte, nI_add, nI_1, nm_2, nm_3, nm_4, nm_6, nm_7, nm_8, nm_12, nm_16, nm_24, nm_40, nm_180, nm_300, nm_10210, na_0, na_2, na_3, na_4, na_5, na_6, na_7, na_8, nm_p, nm_m, nI_clamp, a10, a9]); exact rfl) dX8_rules_92 ?_
                refine x_if_ge (tgt := 113) hκ dX8_rules_95 (by decide) (fun c95 => ?_) (fun c95 => ?_)
                · -- X8_rules 95T
                  have i95 := c95
                  simp (disch := omega) only [i32_lt, i32_le, i32_eq, Int32.reduceToInt, nI_toInt] at i95
                  exact J91f p _ _ hpp a10 ((hFc.trans hFa).S rfl _) hrls.symm
                · -- X8_rules 95F
                  have i95 := c95
                  simp (disch := omega) only [i32_lt, i32_le, i32_eq, Int32.reduceToInt, nI_toInt] at i95
                  exact absurd (nI_pos' (by omega)) c95
              · -- X8_rules 32F
                have i32 := c32
                simp (disch := omega) only [i32_lt, i32_le, i32_eq, Int32.reduceToInt, nI_toInt] at i32
                exact absurd rfl c32
            · -- X8_rules 76F
              have i76 := c76
              simp (disch := omega) only [i32_lt, i32_le, i32_eq, Int32.reduceToInt, nI_toInt] at i76
              refine x_iconst (v := 1) hκ dX8_rules_79 (by decide) ?_
              refine x_goto (tgt := 84) hκ dX8_rules_80 (by decide) ?_
              refine x_iaddN hκ (by (try simp (disch := omega) only [tS_1, tS_2, tA_1, tA_2, tF_1, tF_2, xl_0, xl_1, xl_2, Nat.reduceEqDiff, ↓reduceIte, nI_add, nI_1, nm_2, nm_3, nm_4, nm_6, nm_7, nm_8, nm_12, nm_16, nm_24, nm_40, nm_180, nm_300, nm_10210, na_0, na_2, na_3, na_4, na_5, na_6, na_7, na_8, nm_p, nm_m, nI_clamp, a10, a9]); exact rfl) dX8_rules_84 ?_
              refine t_put hκ fl8_9 (by decide) (by decide) rfl rfl rfl dX8_rules_85 ?_
              refine x_goto (tgt := 31) hκ dX8_rules_88 (by decide) ?_
              refine x_iload_n hκ dX8_rules_31 rfl ?_
              refine x_if_eq (tgt := 91) hκ dX8_rules_32 (by decide) (fun c32 => ?_) (fun c32 => ?_)
              · -- X8_rules 32T
                have i32 := c32
                simp (disch := omega) only [i32_lt, i32_le, i32_eq, Int32.reduceToInt, nI_toInt] at i32
                refine x_aload_n hκ dX8_rules_91 rfl ?_
                refine t_get hκ fl8_10 (by decide) (by decide) rfl (by (try simp (disch := omega) only [tS_1, tS_2, tA_1, tA_2, tF_1, tF_2, xl_0, xl_1, xl_2, Nat.reduceEqDiff, ↓reduceIte, nI_add, nI_1, nm_2, nm_3, nm_4, nm_6, nm_7, nm_8, nm_12, nm_16, nm_24, nm_40, nm_180, nm_300, nm_10210, na_0, na_2, na_3, na_4, na_5, na_6, na_7, na_8, nm_p, nm_m, nI_clamp, a10, a9]); exact rfl) dX8_rules_92 ?_
                refine x_if_ge (tgt := 113) hκ dX8_rules_95 (by decide) (fun c95 => ?_) (fun c95 => ?_)
                · -- X8_rules 95T
                  have i95 := c95
                  simp (disch := omega) only [i32_lt, i32_le, i32_eq, Int32.reduceToInt, nI_toInt] at i95
                  exact J91f p _ _ hpp a10 ((hFc.trans hFa).S rfl _) hrls.symm
                · -- X8_rules 95F
                  have i95 := c95
                  simp (disch := omega) only [i32_lt, i32_le, i32_eq, Int32.reduceToInt, nI_toInt] at i95
                  exact absurd (nI_pos' (by omega)) c95
              · -- X8_rules 32F
                have i32 := c32
                simp (disch := omega) only [i32_lt, i32_le, i32_eq, Int32.reduceToInt, nI_toInt] at i32
                exact absurd rfl c32
          · -- X8_rules 43F
            have i43 := c43
            simp (disch := omega) only [i32_lt, i32_le, i32_eq, Int32.reduceToInt, nI_toInt] at i43
            exact absurd (nI_pos' (by omega)) c43
        | inr q =>
          obtain ⟨a1, o1, ac⟩ := q
          obtain ⟨s, rfl, hok⟩ := rl_wf hN hrl
          have hP := h36.2 a1 _ ac hrl
          obtain ⟨hl90, hsk1⟩ := rl_o hoa hrl
          have hRI2 := hRI.step hP hok
          obtain ⟨hFa, a10, ⟨b2, a9, hb2, hob, hskb⟩, a15, a14, a19, -⟩ := id hP
          rw [k0] at hskb
          have hFa2 := hFc.trans hFa
          have m1 : σ36.1 1 = nI N := by rw [(hFa 1 rfl).1]; exact k1
          have m0 : σ36.2 0 = σ.2 0 := by rw [(hFa 0 rfl).2]; exact k0
          have hl : (R ++ [(s, ac)]).length = R.length + 1 := by rw [List.length_append, List.length_singleton]
          have hle : (allC (R ++ [(s, ac)])).length ≤ 90 := by rw [allC_s]; omega
          have ha1 : a1 ≤ 91 := by have := skp_b (T := σ.2 0) (N := N) (a := b2); omega
          -- the end
          have J91 : ∀ (b3 : Nat), b3 ≤ 200 → skp (σ.2 0) N b3 = a1 → ¬ (R.length + 1 < 6 ∧ cur (σ.2 0) N a1 = 59) → X κ (tG (kE κ) θ (tS σ36 9 (nI b3))) 0 0 91 [some (.ref θ.1), some (.int b), some (.int 0), none, none] [] := by
            intro b3 hb3 hs3 hno
            rw [rls_e hrl hno] at hrls
            have n10 : (tS σ36 9 (nI b3)).1 10 = -1 := a10
            refine x_aload_n hκ dX8_rules_91 rfl ?_
            refine t_get hκ fl8_10 (by decide) (by decide) rfl (by (try simp (disch := omega) only [tS_1, tS_2, tA_1, tA_2, tF_1, tF_2, xl_0, xl_1, xl_2, Nat.reduceEqDiff, ↓reduceIte, nI_add, nI_1, nm_2, nm_3, nm_4, nm_6, nm_7, nm_8, nm_12, nm_16, nm_24, nm_40, nm_180, nm_300, nm_10210, na_0, na_2, na_3, na_4, na_5, na_6, na_7, na_8, nm_p, nm_m, nI_clamp, n10]); exact rfl) dX8_rules_92 ?_
            refine x_if_ge (tgt := 113) hκ dX8_rules_95 (by decide) (fun c95 => ?_) (fun c95 => ?_)
            · -- X8_rules 95T
              have i95 := c95
              simp (disch := omega) only [i32_lt, i32_le, i32_eq, Int32.reduceToInt, nI_toInt] at i95
              rw [a10] at c95
              exact absurd c95 (by decide)
            · -- X8_rules 95F
              have i95 := c95
              simp (disch := omega) only [i32_lt, i32_le, i32_eq, Int32.reduceToInt, nI_toInt] at i95
              refine x_aload_n hκ dX8_rules_98 rfl ?_
              refine t_calli hκ (mX8_next hθ (a := b3) (N := N) (by exact rfl) (by exact m1) hN (by omega)) (by omega) (by decide) wX8_138 aX8_next rfl (Nat.le_of_ble_eq_true rfl) dX8_rules_99 (fun r99 σ99 h99 => ?_)
              rw [show (tS σ36 9 (nI b3)).2 0 = σ.2 0 from m0, hs3, tS_tS] at h99
              obtain ⟨rfl, rfl⟩ := h99
              refine x_if_eq (tgt := 113) hκ dX8_rules_102 (by decide) (fun c102 => ?_) (fun c102 => ?_)
              · -- X8_rules 102T
                have i102 := c102
                simp (disch := omega) only [i32_lt, i32_le, i32_eq, Int32.reduceToInt, nI_toInt] at i102
                rw [if_pos c102] at hrls
                have n10b : (tS σ36 9 (nI a1)).1 10 = -1 := a10
                skip
                refine x_aload_n hκ dX8_rules_113 rfl ?_
                refine x_iconst (v := 0) hκ dX8_rules_114 (by decide) ?_
                refine t_put hκ fl8_1 (by decide) (by decide) rfl rfl rfl dX8_rules_115 ?_
                refine x_aload_n hκ dX8_rules_118 rfl ?_
                refine t_get hκ fl8_10 (by decide) (by decide) rfl (by (try simp (disch := omega) only [tS_1, tS_2, tA_1, tA_2, tF_1, tF_2, xl_0, xl_1, xl_2, Nat.reduceEqDiff, ↓reduceIte, nI_add, nI_1, nm_2, nm_3, nm_4, nm_6, nm_7, nm_8, nm_12, nm_16, nm_24, nm_40, nm_180, nm_300, nm_10210, na_0, na_2, na_3, na_4, na_5, na_6, na_7, na_8, nm_p, nm_m, nI_clamp, n10b]); exact rfl) dX8_rules_119 ?_
                refine x_if_lt (tgt := 133) hκ dX8_rules_122 (by decide) (fun c122 => ?_) (fun c122 => ?_)
                · -- X8_rules 122T
                  have i122 := c122
                  simp (disch := omega) only [i32_lt, i32_le, i32_eq, Int32.reduceToInt, nI_toInt] at i122
                  refine J133 (R ++ [(s, ac)]) _ _ _ _ hRI2 (by simp) (by omega) hle ?_ hrls.symm
                  intro k hk
                  have hk2 := hFa2 k hk
                  have h9n : ¬ k = 9 := fun z => by subst z; cases hk
                  refine ⟨?_, hk2.2⟩
                  show (if k = 1 then (0 : Int32) else if k = 9 then _ else σ36.1 k) = (if k = 1 then (0 : Int32) else σ.1 k)
                  rw [if_neg h9n]
                  split
                  · rfl
                  · exact hk2.1
                · -- X8_rules 122F
                  have i122 := c122
                  simp (disch := omega) only [i32_lt, i32_le, i32_eq, Int32.reduceToInt, nI_toInt] at i122
                  rw [a10] at c122
                  exact absurd (by decide) c122
              · -- X8_rules 102F
                have i102 := c102
                simp (disch := omega) only [i32_lt, i32_le, i32_eq, Int32.reduceToInt, nI_toInt] at i102
                rw [if_neg c102] at hrls
                skip
                refine x_aload_n hκ dX8_rules_105 rfl ?_
                refine x_aload_n hκ dX8_rules_106 rfl ?_
                refine t_get hκ fl8_9 (by decide) (by decide) rfl (by (try simp (disch := omega) only [tS_1, tS_2, tA_1, tA_2, tF_1, tF_2, xl_0, xl_1, xl_2, Nat.reduceEqDiff, ↓reduceIte, nI_add, nI_1, nm_2, nm_3, nm_4, nm_6, nm_7, nm_8, nm_12, nm_16, nm_24, nm_40, nm_180, nm_300, nm_10210, na_0, na_2, na_3, na_4, na_5, na_6, na_7, na_8, nm_p, nm_m, nI_clamp]); exact rfl) dX8_rules_107 ?_
                refine t_callv hκ (mX8_fails hθ) (by omega) (by decide) wX8_142 aX8_fails rfl (Nat.le_of_ble_eq_true rfl) dX8_rules_110 (fun σ110 h110 => ?_)
                subst h110
                refine J91f a1 _ _ (by omega) ?_ ((hFa2.S rfl _).S rfl _) hrls.symm
                show (if (σ36.1 10).toInt < 0 then nI a1 else σ36.1 10) = nI a1
                rw [a10, if_pos neg1]
          refine x_aload_n hκ dX8_rules_39 rfl ?_
          refine t_get hκ fl8_10 (by decide) (by decide) rfl (by (try simp (disch := omega) only [tS_1, tS_2, tA_1, tA_2, tF_1, tF_2, xl_0, xl_1, xl_2, Nat.reduceEqDiff, ↓reduceIte, nI_add, nI_1, nm_2, nm_3, nm_4, nm_6, nm_7, nm_8, nm_12, nm_16, nm_24, nm_40, nm_180, nm_300, nm_10210, na_0, na_2, na_3, na_4, na_5, na_6, na_7, na_8, nm_p, nm_m, nI_clamp, a10, a19]); exact rfl) dX8_rules_40 ?_
          refine x_if_ge (tgt := 68) hκ dX8_rules_43 (by decide) (fun c43 => ?_) (fun c43 => ?_)
          · -- X8_rules 43T
            have i43 := c43
            simp (disch := omega) only [i32_lt, i32_le, i32_eq, Int32.reduceToInt, nI_toInt] at i43
            exact absurd c43 (by decide)
          · -- X8_rules 43F
            have i43 := c43
            simp (disch := omega) only [i32_lt, i32_le, i32_eq, Int32.reduceToInt, nI_toInt] at i43
            refine x_aload_n hκ dX8_rules_46 rfl ?_
            refine t_get hκ fl8_19 (by decide) (by decide) rfl (by (try simp (disch := omega) only [tS_1, tS_2, tA_1, tA_2, tF_1, tF_2, xl_0, xl_1, xl_2, Nat.reduceEqDiff, ↓reduceIte, nI_add, nI_1, nm_2, nm_3, nm_4, nm_6, nm_7, nm_8, nm_12, nm_16, nm_24, nm_40, nm_180, nm_300, nm_10210, na_0, na_2, na_3, na_4, na_5, na_6, na_7, na_8, nm_p, nm_m, nI_clamp, a10, a19]); exact rfl) dX8_rules_47 ?_
            refine x_bipush (v := 6) hκ dX8_rules_50 (by decide) ?_
            refine x_icmp_ge (tgt := 68) hκ dX8_rules_52 (by decide) (fun c52 => ?_) (fun c52 => ?_)
            · -- X8_rules 52T
              have i52 := c52
              simp (disch := omega) only [i32_lt, i32_le, i32_eq, Int32.reduceToInt, nI_toInt] at i52
              refine x_iconst (v := 0) hκ dX8_rules_68 (by decide) ?_
              refine x_istore_n hκ dX8_rules_69 (by rw [hL]; decide) rfl ?_
              refine x_aload_n hκ dX8_rules_70 rfl ?_
              refine x_dup hκ dX8_rules_71 rfl ?_
              refine t_get hκ fl8_9 (by decide) (by decide) rfl (by (try simp (disch := omega) only [tS_1, tS_2, tA_1, tA_2, tF_1, tF_2, xl_0, xl_1, xl_2, Nat.reduceEqDiff, ↓reduceIte, nI_add, nI_1, nm_2, nm_3, nm_4, nm_6, nm_7, nm_8, nm_12, nm_16, nm_24, nm_40, nm_180, nm_300, nm_10210, na_0, na_2, na_3, na_4, na_5, na_6, na_7, na_8, nm_p, nm_m, nI_clamp, a10, a19, a9]); exact rfl) dX8_rules_72 ?_
              refine x_iload_n hκ dX8_rules_75 rfl ?_
              refine x_if_eq (tgt := 83) hκ dX8_rules_76 (by decide) (fun c76 => ?_) (fun c76 => ?_)
              · -- X8_rules 76T
                have i76 := c76
                simp (disch := omega) only [i32_lt, i32_le, i32_eq, Int32.reduceToInt, nI_toInt] at i76
                refine x_iconst (v := 0) hκ dX8_rules_83 (by decide) ?_
                refine x_iaddN hκ (by (try simp (disch := omega) only [tS_1, tS_2, tA_1, tA_2, tF_1, tF_2, xl_0, xl_1, xl_2, Nat.reduceEqDiff, ↓reduceIte, nI_add, nI_1, nm_2, nm_3, nm_4, nm_6, nm_7, nm_8, nm_12, nm_16, nm_24, nm_40, nm_180, nm_300, nm_10210, na_0, na_2, na_3, na_4, na_5, na_6, na_7, na_8, nm_p, nm_m, nI_clamp, a10, a19, a9]); exact rfl) dX8_rules_84 ?_
                refine t_put hκ fl8_9 (by decide) (by decide) rfl rfl rfl dX8_rules_85 ?_
                refine x_goto (tgt := 31) hκ dX8_rules_88 (by decide) ?_
                skip
                refine x_iload_n hκ dX8_rules_31 rfl ?_
                refine x_if_eq (tgt := 91) hκ dX8_rules_32 (by decide) (fun c32 => ?_) (fun c32 => ?_)
                · -- X8_rules 32T
                  have i32 := c32
                  simp (disch := omega) only [i32_lt, i32_le, i32_eq, Int32.reduceToInt, nI_toInt] at i32
                  exact J91 b2 (by omega) hskb (fun z => by have := z.1; omega)
                · -- X8_rules 32F
                  have i32 := c32
                  simp (disch := omega) only [i32_lt, i32_le, i32_eq, Int32.reduceToInt, nI_toInt] at i32
                  exact absurd rfl c32
              · -- X8_rules 76F
                have i76 := c76
                simp (disch := omega) only [i32_lt, i32_le, i32_eq, Int32.reduceToInt, nI_toInt] at i76
                exact absurd rfl c76
            · -- X8_rules 52F
              have i52 := c52
              simp (disch := omega) only [i32_lt, i32_le, i32_eq, Int32.reduceToInt, nI_toInt] at i52
              refine x_aload_n hκ dX8_rules_55 rfl ?_
              refine t_calli hκ (mX8_next hθ (a := b2) (N := N) (by exact a9) (by exact m1) hN (by omega)) (by omega) (by decide) wX8_138 aX8_next rfl (Nat.le_of_ble_eq_true rfl) dX8_rules_56 (fun r56 σ56 h56 => ?_)
              rw [m0, hskb] at h56
              obtain ⟨rfl, rfl⟩ := h56
              refine x_bipush (v := 59) hκ dX8_rules_59 (by decide) ?_
              refine x_icmp_ne (tgt := 68) hκ dX8_rules_61 (by decide) (fun c61 => ?_) (fun c61 => ?_)
              · -- X8_rules 61T
                have i61 := c61
                simp (disch := omega) only [i32_lt, i32_le, i32_eq, Int32.reduceToInt, nI_toInt] at i61
                refine x_iconst (v := 0) hκ dX8_rules_68 (by decide) ?_
                refine x_istore_n hκ dX8_rules_69 (by rw [hL]; decide) rfl ?_
                refine x_aload_n hκ dX8_rules_70 rfl ?_
                refine x_dup hκ dX8_rules_71 rfl ?_
                refine t_get hκ fl8_9 (by decide) (by decide) rfl (by (try simp (disch := omega) only [tS_1, tS_2, tA_1, tA_2, tF_1, tF_2, xl_0, xl_1, xl_2, Nat.reduceEqDiff, ↓reduceIte, nI_add, nI_1, nm_2, nm_3, nm_4, nm_6, nm_7, nm_8, nm_12, nm_16, nm_24, nm_40, nm_180, nm_300, nm_10210, na_0, na_2, na_3, na_4, na_5, na_6, na_7, na_8, nm_p, nm_m, nI_clamp, a10, a19, a9]); exact rfl) dX8_rules_72 ?_
                refine x_iload_n hκ dX8_rules_75 rfl ?_
                refine x_if_eq (tgt := 83) hκ dX8_rules_76 (by decide) (fun c76 => ?_) (fun c76 => ?_)
                · -- X8_rules 76T
                  have i76 := c76
                  simp (disch := omega) only [i32_lt, i32_le, i32_eq, Int32.reduceToInt, nI_toInt] at i76
                  refine x_iconst (v := 0) hκ dX8_rules_83 (by decide) ?_
                  refine x_iaddN hκ (by (try simp (disch := omega) only [tS_1, tS_2, tA_1, tA_2, tF_1, tF_2, xl_0, xl_1, xl_2, Nat.reduceEqDiff, ↓reduceIte, nI_add, nI_1, nm_2, nm_3, nm_4, nm_6, nm_7, nm_8, nm_12, nm_16, nm_24, nm_40, nm_180, nm_300, nm_10210, na_0, na_2, na_3, na_4, na_5, na_6, na_7, na_8, nm_p, nm_m, nI_clamp, a10, a19, a9]); exact rfl) dX8_rules_84 ?_
                  refine t_put hκ fl8_9 (by decide) (by decide) rfl rfl rfl dX8_rules_85 ?_
                  refine x_goto (tgt := 31) hκ dX8_rules_88 (by decide) ?_
                  rw [tS_tS]
                  skip
                  refine x_iload_n hκ dX8_rules_31 rfl ?_
                  refine x_if_eq (tgt := 91) hκ dX8_rules_32 (by decide) (fun c32 => ?_) (fun c32 => ?_)
                  · -- X8_rules 32T
                    have i32 := c32
                    simp (disch := omega) only [i32_lt, i32_le, i32_eq, Int32.reduceToInt, nI_toInt] at i32
                    exact J91 a1 (by omega) hsk1 (fun z => c61 z.2)
                  · -- X8_rules 32F
                    have i32 := c32
                    simp (disch := omega) only [i32_lt, i32_le, i32_eq, Int32.reduceToInt, nI_toInt] at i32
                    exact absurd rfl c32
                · -- X8_rules 76F
                  have i76 := c76
                  simp (disch := omega) only [i32_lt, i32_le, i32_eq, Int32.reduceToInt, nI_toInt] at i76
                  exact absurd rfl c76
              · -- X8_rules 61F
                have i61 := c61
                simp (disch := omega) only [i32_lt, i32_le, i32_eq, Int32.reduceToInt, nI_toInt] at i61
                refine x_iconst (v := 1) hκ dX8_rules_64 (by decide) ?_
                refine x_goto (tgt := 69) hκ dX8_rules_65 (by decide) ?_
                refine x_istore_n hκ dX8_rules_69 (by rw [hL]; decide) rfl ?_
                refine x_aload_n hκ dX8_rules_70 rfl ?_
                refine x_dup hκ dX8_rules_71 rfl ?_
                refine t_get hκ fl8_9 (by decide) (by decide) rfl (by (try simp (disch := omega) only [tS_1, tS_2, tA_1, tA_2, tF_1, tF_2, xl_0, xl_1, xl_2, Nat.reduceEqDiff, ↓reduceIte, nI_add, nI_1, nm_2, nm_3, nm_4, nm_6, nm_7, nm_8, nm_12, nm_16, nm_24, nm_40, nm_180, nm_300, nm_10210, na_0, na_2, na_3, na_4, na_5, na_6, na_7, na_8, nm_p, nm_m, nI_clamp, a10, a19, a9]); exact rfl) dX8_rules_72 ?_
                refine x_iload_n hκ dX8_rules_75 rfl ?_
                refine x_if_eq (tgt := 83) hκ dX8_rules_76 (by decide) (fun c76 => ?_) (fun c76 => ?_)
                · -- X8_rules 76T
                  have i76 := c76
                  simp (disch := omega) only [i32_lt, i32_le, i32_eq, Int32.reduceToInt, nI_toInt] at i76
                  exact absurd c76 (by decide)
                · -- X8_rules 76F
                  have i76 := c76
                  simp (disch := omega) only [i32_lt, i32_le, i32_eq, Int32.reduceToInt, nI_toInt] at i76
                  refine x_iconst (v := 1) hκ dX8_rules_79 (by decide) ?_
                  refine x_goto (tgt := 84) hκ dX8_rules_80 (by decide) ?_
                  refine x_iaddN hκ (by (try simp (disch := omega) only [tS_1, tS_2, tA_1, tA_2, tF_1, tF_2, xl_0, xl_1, xl_2, Nat.reduceEqDiff, ↓reduceIte, nI_add, nI_1, nm_2, nm_3, nm_4, nm_6, nm_7, nm_8, nm_12, nm_16, nm_24, nm_40, nm_180, nm_300, nm_10210, na_0, na_2, na_3, na_4, na_5, na_6, na_7, na_8, nm_p, nm_m, nI_clamp, a10, a19, a9]); exact rfl) dX8_rules_84 ?_
                  refine t_put hκ fl8_9 (by decide) (by decide) rfl rfl rfl dX8_rules_85 ?_
                  refine x_goto (tgt := 31) hκ dX8_rules_88 (by decide) ?_
                  rw [tS_tS]
                  have hlt : a1 < N := cur_lt (T := σ.2 0) (fun z => by rw [z] at c61; exact absurd c61 (by decide))
                  rw [rls_m hrl ⟨by omega, c61⟩, ← allC_s] at hrls
                  have hl1 : (allC R ++ s).length ≤ a1 + 1 := by have := skp_b (T := σ.2 0) (N := N) (a := b2); omega
                  exact ih (a1 + 1) (R ++ [(s, ac)]) _ (by omega) (by omega) (by omega) (by rw [allC_s]; exact hl1) hRI2 (hFa2.S rfl _) rfl a10 hrls
  refine x_iload_n hκ dX8_rules_0 rfl ?_
  refine x_callSi hκ mX8_isBox (by omega) (by decide) wX8_186 aX8_isBox rfl (Nat.le_of_ble_eq_true rfl) dX8_rules_1 (fun r1 h1 => ?_)
  refine x_if_ne (tgt := 9) hκ dX8_rules_4 (by decide) (fun c4 => ?_) (fun c4 => ?_)
  · -- X8_rules 4T
    have i4 := h1.t c4
    try simp only [Int32.reduceToInt] at i4
    refine x_aload_n hκ dX8_rules_9 rfl ?_
    refine x_iconst (v := 0) hκ dX8_rules_10 (by decide) ?_
    refine t_put hκ fl8_9 (by decide) (by decide) rfl rfl rfl dX8_rules_11 ?_
    refine x_aload_n hκ dX8_rules_14 rfl ?_
    refine x_iconst (v := (-1)) hκ dX8_rules_15 (by decide) ?_
    refine t_put hκ fl8_10 (by decide) (by decide) rfl rfl rfl dX8_rules_16 ?_
    refine x_aload_n hκ dX8_rules_19 rfl ?_
    refine x_iconst (v := 0) hκ dX8_rules_20 (by decide) ?_
    refine t_put hκ fl8_15 (by decide) (by decide) rfl rfl rfl dX8_rules_21 ?_
    refine x_aload_n hκ dX8_rules_24 rfl ?_
    refine x_iconst (v := 0) hκ dX8_rules_25 (by decide) ?_
    refine t_put hκ fl8_19 (by decide) (by decide) rfl rfl rfl dX8_rules_26 ?_
    refine x_iconst (v := 1) hκ dX8_rules_29 (by decide) ?_
    refine x_istore_n hκ dX8_rules_30 (by rw [hL]; decide) rfl ?_
    refine main 6 0 [] _ rfl (by omega) (by omega) (Nat.le_refl _) ⟨rfl, rfl, AL.nil, fun r hr => absurd hr (Nat.not_lt_zero _), fun z => absurd rfl z, fun r q hq => (by cases hq)⟩ (((((Fr.rf ruS σ).S rfl _).S rfl _).S rfl _).S rfl _) rfl rfl rfl
  · -- X8_rules 4F
    have i4 := h1.f c4
    try simp only [Int32.reduceToInt] at i4
    refine x_iconst (v := (-1)) hκ dX8_rules_7 (by decide) ?_
    refine t_reti hκ hr rfl dX8_rules_8 ?_
    exact absurd hin i4
