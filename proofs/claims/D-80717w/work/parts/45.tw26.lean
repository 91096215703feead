theorem wX8_167 : GoodIn lw_all (wsV RX8 167 RX8 yX8_opens (ws_ yX8_opens cX8_opens 2 none)) := lw_V q1374 q1376 qs36 q82 q1377
theorem aX8_opens : yX8_opens.cls = RX8 ∧ yX8_opens.cls ≠ "java/lang/invoke/MethodHandle" ∧ yX8_opens.cls ≠ "java/lang/invoke/VarHandle" ∧ (parseMethodDescriptor yX8_opens.desc).map (fun d => d.parameters.length) = some 1 := by decide +kernel
theorem wX8_170 : GoodIn lw_all (wsV RX8 170 RX8 yX8_atom (ws_ yX8_atom cX8_atom 4 (some .boolean))) := lw_V q1382 q1384 qs38 q82 q1385
theorem aX8_atom : yX8_atom.cls = RX8 ∧ yX8_atom.cls ≠ "java/lang/invoke/MethodHandle" ∧ yX8_atom.cls ≠ "java/lang/invoke/VarHandle" ∧ (parseMethodDescriptor yX8_atom.desc).map (fun d => d.parameters.length) = some 1 := by decide +kernel
theorem wX8_174 : GoodIn lw_all (wsV RX8 174 RX8 yX8_settle (ws_ yX8_settle cX8_settle 3 none)) := lw_V q1396 q1398 qs41 q82 q1399
theorem aX8_settle : yX8_settle.cls = RX8 ∧ yX8_settle.cls ≠ "java/lang/invoke/MethodHandle" ∧ yX8_settle.cls ≠ "java/lang/invoke/VarHandle" ∧ (parseMethodDescriptor yX8_settle.desc).map (fun d => d.parameters.length) = some 1 := by decide +kernel
/-! the reference: expression -/
theorem mx_open {T : Nat → Int32} {N f a : Nat} {W : List Nat} {o : List Int32} (h : cur T N (skp T N a) = 33 ∨ cur T N (skp T N a) = 40) : mx T N (f + 1) a true W o = (if dep W = 8 then .inl (skp T N a) else mx T N f (skp T N a + 1) true ((if cur T N (skp T N a) = 33 then 3 else 0) :: W) o) := by rw [mx, if_pos h]
theorem mx_none {T : Nat → Int32} {N f a : Nat} {W : List Nat} {o : List Int32} (h : ¬ (cur T N (skp T N a) = 33 ∨ cur T N (skp T N a) = 40)) (ha : atm T N (skp T N a) (cur T N (skp T N a)) = none) : mx T N (f + 1) a true W o = .inl (skp T N a) := by rw [mx, if_neg h, ha]
theorem mx_bad {T : Nat → Int32} {N f a p : Nat} {W : List Nat} {o : List Int32} (h : ¬ (cur T N (skp T N a) = 33 ∨ cur T N (skp T N a) = 40)) (ha : atm T N (skp T N a) (cur T N (skp T N a)) = some (.inl p)) : mx T N (f + 1) a true W o = .inl p := by rw [mx, if_neg h, ha]
theorem mx_atom {T : Nat → Int32} {N f a : Nat} {q : Nat × Int32} {W : List Nat} {o : List Int32} (h : ¬ (cur T N (skp T N a) = 33 ∨ cur T N (skp T N a) = 40)) (ha : atm T N (skp T N a) (cur T N (skp T N a)) = some (.inr q)) : mx T N (f + 1) a true W o = mx T N f q.1 false (stl 3 W (o ++ [q.2])).1 (stl 3 W (o ++ [q.2])).2 := by rw [mx, if_neg h, ha]
theorem mx_join {T : Nat → Int32} {N f a : Nat} {W : List Nat} {o : List Int32} (h : cur T N (skp T N a) = 38 ∨ cur T N (skp T N a) = 124) : mx T N (f + 1) a false W o = mx T N f (skp T N a + 1) true ((if cur T N (skp T N a) = 38 then 2 else 1) :: (stl (if cur T N (skp T N a) = 38 then 2 else 1) W o).1) (stl (if cur T N (skp T N a) = 38 then 2 else 1) W o).2 := by rw [mx, if_pos h]
theorem mx_end {T : Nat → Int32} {N f a : Nat} {W : List Nat} {o : List Int32} (h : ¬ (cur T N (skp T N a) = 38 ∨ cur T N (skp T N a) = 124)) (h2 : ¬ cur T N (skp T N a) = 41) : mx T N (f + 1) a false W o = .inr (skp T N a, W, o) := by rw [mx, if_neg h, if_neg h2]
theorem mx_cl0 {T : Nat → Int32} {N f a : Nat} {W : List Nat} {o : List Int32} (h : ¬ (cur T N (skp T N a) = 38 ∨ cur T N (skp T N a) = 124)) (h2 : cur T N (skp T N a) = 41) (h3 : (stl 1 W o).1 = []) : mx T N (f + 1) a false W o = .inr (skp T N a, [], (stl 1 W o).2) := by rw [mx, if_neg h, if_pos h2, h3]
theorem mx_cl1 {T : Nat → Int32} {N f a x : Nat} {W V : List Nat} {o : List Int32} (h : ¬ (cur T N (skp T N a) = 38 ∨ cur T N (skp T N a) = 124)) (h2 : cur T N (skp T N a) = 41) (h3 : (stl 1 W o).1 = x :: V) : mx T N (f + 1) a false W o = mx T N f (skp T N a + 1) false (stl 3 V (stl 1 W o).2).1 (stl 3 V (stl 1 W o).2).2 := by rw [mx, if_neg h, if_pos h2, h3]
theorem stl_top {m : Nat} : ∀ (W : List Nat) (o : List Int32) (x : Nat) (V : List Nat), (stl m W o).1 = x :: V → ¬ m ≤ x
  | [], o, x, V, h => by cases h
  | y :: W, o, x, V, h => by
    rw [stl] at h
    split at h
    · exact stl_top W _ x V h
    · cases h; assumption
theorem PW.push {σ0 σ : TS} {a x : Nat} {W : List Nat} {o : List Int32} (h : PW σ0 a W o σ) (hx : x = 1 ∨ x = 2) (hW : W.length ≤ 93) (ho : o.length + W.length ≤ 160) : PW σ0 (a + 1) (x :: W) o (tS (tS (tA σ 11 W.length (nI x)) 12 (nI (W.length + 1))) 9 (nI (a + 1))) := by
  obtain ⟨h1, h2, h3, h4, h5, h6, h7, h8, h9, h10⟩ := h
  refine ⟨((h1.A rfl _ _).S rfl _).S rfl _, rfl, ?_, ?_, h5.push x, h6, h7, ?_, ?_, ?_⟩
  · rw [List.length_cons]; rfl
  · rw [dep, if_neg (by omega), Nat.zero_add]; exact h4
  · intro y hy
    rcases List.mem_cons.mp hy with z | z
    · omega
    · exact h8 y z
  · rw [List.length_cons]; omega
  · rw [List.length_cons]; omega
theorem PW.pop0 {σ0 σ : TS} {a : Nat} {V : List Nat} {o : List Int32} (h : PW σ0 a (0 :: V) o σ) : PW σ0 (a + 1) V o (tS (tS (tS σ 12 (nI V.length)) 13 (nI (dep V))) 9 (nI (a + 1))) := by
  obtain ⟨h1, h2, h3, h4, h5, h6, h7, h8, h9, h10⟩ := h
  rw [List.length_cons] at h9 h10
  exact ⟨((h1.S rfl _).S rfl _).S rfl _, rfl, rfl, rfl, h5.tail, h6, h7, fun y hy => h8 y (List.mem_cons_of_mem _ hy), by omega, by omega⟩
theorem atm_p {T : Nat → Int32} {N a p : Nat} {c : Int32} (h : atm T N a c = some (.inl p)) : p ≤ a + 1 ∨ p ≤ N := by
  unfold atm at h
  cases hk : akd c with
  | none => rw [hk] at h; cases h
  | some q =>
    obtain ⟨k, m⟩ := q
    rw [hk] at h
    cases m with
    | none => cases h
    | some m =>
      simp only at h
      have h1 := skp_le (T := T) (N := N) (N - (a + 1)) (a + 1)
      cases hn : nm T N (a + 1) m with
      | inr q => rw [hn] at h; cases h
      | inl p' =>
        rw [hn] at h
        cases h
        unfold nm at hn
        split at hn
        · split at hn
          · cases hn; unfold skp; omega
          · cases hn
        · cases hn; unfold skp; omega
theorem mX8_expression {E : gE} {θ : TA} (hθ : tOk θ) {σ : TS} {a N : Nat} {o : List Int32} (h9 : σ.1 9 = nI a) (hT : σ.1 1 = nI N) (hN : N ≤ 90) (h10 : σ.1 10 = -1) (h15 : σ.1 15 = nI o.length) (hA : AL (σ.2 14) 0 o) (hoa : o.length ≤ a) (ha : a ≤ 91) : TMv E θ σ yX8_expression cX8_expression 4 3 [] (fun σ' => (∀ p, ex (σ.2 0) N a o = .inl p → FW σ p σ') ∧ ∀ a' o', ex (σ.2 0) N a o = .inr (a', o') → PW σ a' [] o' σ') := by
  refine TMv.of (by decide) (Nat.le_of_ble_eq_true rfl) ?_
  rintro κ rfl hL hκ hr
  have hneg : (σ.1 10).toInt < 0 := by rw [h10]; decide
  have skb : ∀ b, b ≤ 91 → b ≤ skp (σ.2 0) N b ∧ skp (σ.2 0) N b ≤ 91 := fun b hb => by
    have := skp_le (T := σ.2 0) (N := N) (N - b) b
    unfold skp
    omega
  generalize hres : mx (σ.2 0) N 100 a true [] o = res
  -- the ends
  have J231f : ∀ (p : Nat) (σc : TS) (z1 z2 : Int32) (o3 : Option Value), p ≤ 300 → res = .inl p → FW σ p σc → X κ (tG (kE κ) θ σc) 0 0 231 [some (.ref θ.1), some (.int z1), some (.int z2), o3] [] := by
    intro p σc z1 z2 o3 hp hr0 hF
    have hex : ex (σ.2 0) N a o = .inl p := by unfold ex; rw [hres, hr0]
    obtain ⟨b, W, o1, hb, hP⟩ := hF
    have done : ∀ σ', FW σ p σ' → (∀ p, ex (σ.2 0) N a o = .inl p → FW σ p σ') ∧ ∀ a' o', ex (σ.2 0) N a o = .inr (a', o') → PW σ a' [] o' σ' := fun σ' h => ⟨fun p' hp' => by rw [hex] at hp'; cases hp'; exact h, fun a' o' hp' => by rw [hex] at hp'; cases hp'⟩
    refine x_aload_n hκ dX8_expression_231 rfl ?_
    refine x_iconst (v := 1) hκ dX8_expression_232 (by decide) ?_
    refine t_callv hκ (mX8_settle hθ (m := 1) (by decide) hP) (by omega) (by decide) wX8_174 aX8_settle rfl (Nat.le_of_ble_eq_true rfl) dX8_expression_233 (fun σ233 h233 => ?_)
    have h9b := h233.2.1
    have hF2 : FW σ p σ233 := ⟨b, _, _, hb, h233⟩
    refine x_aload_n hκ dX8_expression_236 rfl ?_
    refine t_get hκ fl8_12 (by decide) (by decide) rfl (by (try simp (disch := omega) only [tS_1, tS_2, tA_1, tA_2, tF_1, tF_2, xl_0, xl_1, xl_2, Nat.reduceEqDiff, ↓reduceIte, nI_add, nI_1, nm_2, nm_3, nm_4, nm_6, nm_7, nm_8, nm_12, nm_16, nm_24, nm_40, nm_180, nm_300, nm_10210, na_0, na_2, na_3, na_4, na_5, na_6, na_7, na_8, nm_p, nm_m, nI_clamp]); exact rfl) dX8_expression_237 ?_
    refine x_if_le (tgt := 251) hκ dX8_expression_240 (by decide) (fun c240 => ?_) (fun c240 => ?_)
    · -- X8_expression 240T
      have i240 := c240
      simp (disch := omega) only [i32_lt, i32_le, i32_eq, Int32.reduceToInt, nI_toInt] at i240
      refine t_retv hκ hr dX8_expression_251 ?_
      exact done _ hF2
    · -- X8_expression 240F
      have i240 := c240
      simp (disch := omega) only [i32_lt, i32_le, i32_eq, Int32.reduceToInt, nI_toInt] at i240
      refine x_aload_n hκ dX8_expression_243 rfl ?_
      refine x_aload_n hκ dX8_expression_244 rfl ?_
      refine t_get hκ fl8_9 (by decide) (by decide) rfl (by (try simp (disch := omega) only [tS_1, tS_2, tA_1, tA_2, tF_1, tF_2, xl_0, xl_1, xl_2, Nat.reduceEqDiff, ↓reduceIte, nI_add, nI_1, nm_2, nm_3, nm_4, nm_6, nm_7, nm_8, nm_12, nm_16, nm_24, nm_40, nm_180, nm_300, nm_10210, na_0, na_2, na_3, na_4, na_5, na_6, na_7, na_8, nm_p, nm_m, nI_clamp]); exact rfl) dX8_expression_245 ?_
      refine t_callv hκ (mX8_fails hθ) (by omega) (by decide) wX8_142 aX8_fails rfl (Nat.le_of_ble_eq_true rfl) dX8_expression_248 (fun σ248 h248 => ?_)
      have e10 : σ233.1 10 = nI p := by rw [(h233.1 10 rfl).1]; rfl
      have e248 : σ248 = σ233 := by
        rw [h248, e10, if_neg (by rw [nI_toInt (by omega)]; omega), ← e10]
        unfold tS
        refine Prod.ext ?_ rfl
        funext j
        unfold upd
        by_cases hj : j = 10 <;> simp [hj]
      rw [e248]
      refine t_retv hκ hr dX8_expression_251 ?_
      exact done _ hF2
  have J231g : ∀ (a1 : Nat) (W : List Nat) (o1 : List Int32) (σc : TS) (z1 z2 : Int32) (o3 : Option Value), a1 ≤ 91 → res = .inr (a1, W, o1) → PW σ a1 W o1 σc → X κ (tG (kE κ) θ σc) 0 0 231 [some (.ref θ.1), some (.int z1), some (.int z2), o3] [] := by
    intro a1 W o1 σc z1 z2 o3 ha1 hr0 hP
    have hex : ex (σ.2 0) N a o = if (stl 1 W o1).1 = [] then .inr (a1, (stl 1 W o1).2) else .inl a1 := by unfold ex; rw [hres, hr0]
    refine x_aload_n hκ dX8_expression_231 rfl ?_
    refine x_iconst (v := 1) hκ dX8_expression_232 (by decide) ?_
    refine t_callv hκ (mX8_settle hθ (m := 1) (by decide) hP) (by omega) (by decide) wX8_174 aX8_settle rfl (Nat.le_of_ble_eq_true rfl) dX8_expression_233 (fun σ233 h233 => ?_)
    have h12 := h233.2.2.1
    have hwl := h233.2.2.2.2.2.2.2.2.1
    have h9c := h233.2.1
    refine x_aload_n hκ dX8_expression_236 rfl ?_
    refine t_get hκ fl8_12 (by decide) (by decide) rfl (by (try simp (disch := omega) only [tS_1, tS_2, tA_1, tA_2, tF_1, tF_2, xl_0, xl_1, xl_2, Nat.reduceEqDiff, ↓reduceIte, nI_add, nI_1, nm_2, nm_3, nm_4, nm_6, nm_7, nm_8, nm_12, nm_16, nm_24, nm_40, nm_180, nm_300, nm_10210, na_0, na_2, na_3, na_4, na_5, na_6, na_7, na_8, nm_p, nm_m, nI_clamp, h12, h9c]); exact rfl) dX8_expression_237 ?_
    refine x_if_le (tgt := 251) hκ dX8_expression_240 (by decide) (fun c240 => ?_) (fun c240 => ?_)
    · -- X8_expression 240T
      have i240 := c240
      simp (disch := omega) only [i32_lt, i32_le, i32_eq, Int32.reduceToInt, nI_toInt] at i240
      refine t_retv hκ hr dX8_expression_251 ?_
      have hnil : (stl 1 W o1).1 = [] := List.eq_nil_of_length_eq_zero (by omega)
      rw [hnil] at h233
      rw [if_pos hnil] at hex
      exact ⟨fun p hp => (by rw [hex] at hp; cases hp), fun a' o' hp => (by rw [hex] at hp; cases hp; exact h233)⟩
    · -- X8_expression 240F
      have i240 := c240
      simp (disch := omega) only [i32_lt, i32_le, i32_eq, Int32.reduceToInt, nI_toInt] at i240
      refine x_aload_n hκ dX8_expression_243 rfl ?_
      refine x_aload_n hκ dX8_expression_244 rfl ?_
      refine t_get hκ fl8_9 (by decide) (by decide) rfl (by (try simp (disch := omega) only [tS_1, tS_2, tA_1, tA_2, tF_1, tF_2, xl_0, xl_1, xl_2, Nat.reduceEqDiff, ↓reduceIte, nI_add, nI_1, nm_2, nm_3, nm_4, nm_6, nm_7, nm_8, nm_12, nm_16, nm_24, nm_40, nm_180, nm_300, nm_10210, na_0, na_2, na_3, na_4, na_5, na_6, na_7, na_8, nm_p, nm_m, nI_clamp, h12, h9c]); exact rfl) dX8_expression_245 ?_
      refine t_callv hκ (mX8_fails hθ) (by omega) (by decide) wX8_142 aX8_fails rfl (Nat.le_of_ble_eq_true rfl) dX8_expression_248 (fun σ248 h248 => ?_)
      have e248 : σ248 = flt σ233 a1 := by rw [h248]; rfl
      rw [e248]
      refine t_retv hκ hr dX8_expression_251 ?_
      have hnn : ¬ (stl 1 W o1).1 = [] := fun z => by rw [z] at i240; exact i240 (Int.le_refl _)
      rw [if_neg hnn] at hex
      exact ⟨fun p hp => (by rw [hex] at hp; cases hp; exact ⟨a1, _, _, by omega, h233.flt hneg⟩), fun a' o' hp => (by rw [hex] at hp; cases hp)⟩
  have hex0 : PW σ a [] o (tS (tS σ 12 0) 13 0) := ⟨((Fr.rf _ σ).S rfl _).S rfl _, h9, rfl, rfl, fun j x hx => (by cases hx), h15, hA, fun x hx => (by cases hx), by decide, by rw [List.length_nil]; omega⟩
  have J14f : ∀ (p : Nat) (σc : TS) (z1 : Int32) (o3 : Option Value), p ≤ 300 → res = .inl p → FW σ p σc → X κ (tG (kE κ) θ σc) 0 0 14 [some (.ref θ.1), some (.int z1), some (.int 1), o3] [] := by
    intro p σc z1 o3 hp hr0 hF
    have e10 : σc.1 10 = nI p := by obtain ⟨b, W, o1, hb, hP⟩ := hF; rw [(hP.1 10 rfl).1]; rfl
    refine x_iload_n hκ dX8_expression_14 rfl ?_
    refine x_if_eq (tgt := 231) hκ dX8_expression_15 (by decide) (fun c15 => ?_) (fun c15 => ?_)
    · -- X8_expression 15T
      have i15 := c15
      simp (disch := omega) only [i32_lt, i32_le, i32_eq, Int32.reduceToInt, nI_toInt] at i15
      exact absurd c15 (by decide)
    · -- X8_expression 15F
      have i15 := c15
      simp (disch := omega) only [i32_lt, i32_le, i32_eq, Int32.reduceToInt, nI_toInt] at i15
      refine x_aload_n hκ dX8_expression_18 rfl ?_
      refine t_get hκ fl8_10 (by decide) (by decide) rfl (by (try simp (disch := omega) only [tS_1, tS_2, tA_1, tA_2, tF_1, tF_2, xl_0, xl_1, xl_2, Nat.reduceEqDiff, ↓reduceIte, nI_add, nI_1, nm_2, nm_3, nm_4, nm_6, nm_7, nm_8, nm_12, nm_16, nm_24, nm_40, nm_180, nm_300, nm_10210, na_0, na_2, na_3, na_4, na_5, na_6, na_7, na_8, nm_p, nm_m, nI_clamp, e10]); exact rfl) dX8_expression_19 ?_
      refine x_if_ge (tgt := 231) hκ dX8_expression_22 (by decide) (fun c22 => ?_) (fun c22 => ?_)
      · -- X8_expression 22T
        have i22 := c22
        simp (disch := omega) only [i32_lt, i32_le, i32_eq, Int32.reduceToInt, nI_toInt] at i22
        exact J231f p _ _ _ _ hp hr0 hF
      · -- X8_expression 22F
        have i22 := c22
        simp (disch := omega) only [i32_lt, i32_le, i32_eq, Int32.reduceToInt, nI_toInt] at i22
        exact absurd (nI_pos' (by omega)) c22
  have loop : ∀ (f b : Nat) (wn : Bool) (W : List Nat) (o1 : List Int32) (σc : TS) (o3 : Option Value), 100 ≤ b + f → b ≤ 91 → o1.length + W.length ≤ b → PW σ b W o1 σc → mx (σ.2 0) N f b wn W o1 = res → X κ (tG (kE κ) θ σc) 0 0 14 [some (.ref θ.1), some (.int (zB wn)), some (.int 1), o3] [] := by
    intro f
    induction f with
    | zero => intro b wn W o1 σc o3 h1 h2; omega
    | succ f ih =>
      intro b wn W o1 σc o3 hbf hb91 hlen hP hmx
      have e10 : σc.1 10 = -1 := by rw [(hP.1 10 rfl).1]; exact h10
      have e1 : σc.1 1 = nI N := by rw [(hP.1 1 rfl).1]; exact hT
      have e0 : σc.2 0 = σ.2 0 := (hP.1 0 rfl).2
      obtain ⟨k1, k2⟩ := skb b hb91
      generalize hsk : skp (σ.2 0) N b = b1 at k1 k2
      have hP1 : PW σ b1 W o1 (tS σc 9 (nI b1)) := hP.at
      have hcl : ¬ cur (σ.2 0) N b1 = 0 → b1 < N := cur_lt
      cases wn with
      | true =>
        refine x_iload_n hκ dX8_expression_14 rfl ?_
        refine x_if_eq (tgt := 231) hκ dX8_expression_15 (by decide) (fun c15 => ?_) (fun c15 => ?_)
        · -- X8_expression 15T
          have i15 := c15
          simp (disch := omega) only [i32_lt, i32_le, i32_eq, Int32.reduceToInt, nI_toInt] at i15
          exact absurd c15 (by decide)
        · -- X8_expression 15F
          have i15 := c15
          simp (disch := omega) only [i32_lt, i32_le, i32_eq, Int32.reduceToInt, nI_toInt] at i15
          refine x_aload_n hκ dX8_expression_18 rfl ?_
          refine t_get hκ fl8_10 (by decide) (by decide) rfl (by (try simp (disch := omega) only [tS_1, tS_2, tA_1, tA_2, tF_1, tF_2, xl_0, xl_1, xl_2, Nat.reduceEqDiff, ↓reduceIte, nI_add, nI_1, nm_2, nm_3, nm_4, nm_6, nm_7, nm_8, nm_12, nm_16, nm_24, nm_40, nm_180, nm_300, nm_10210, na_0, na_2, na_3, na_4, na_5, na_6, na_7, na_8, nm_p, nm_m, nI_clamp, e10]); exact rfl) dX8_expression_19 ?_
          refine x_if_ge (tgt := 231) hκ dX8_expression_22 (by decide) (fun c22 => ?_) (fun c22 => ?_)
          · -- X8_expression 22T
            have i22 := c22
            simp (disch := omega) only [i32_lt, i32_le, i32_eq, Int32.reduceToInt, nI_toInt] at i22
            exact absurd c22 (by decide)
          · -- X8_expression 22F
            have i22 := c22
            simp (disch := omega) only [i32_lt, i32_le, i32_eq, Int32.reduceToInt, nI_toInt] at i22
            refine x_aload_n hκ dX8_expression_25 rfl ?_
            refine t_calli hκ (mX8_next hθ hP.2.1 e1 hN (by omega)) (by omega) (by decide) wX8_138 aX8_next rfl (Nat.le_of_ble_eq_true rfl) dX8_expression_26 (fun r26 σ26 h26 => ?_)
            rw [e0, hsk] at h26
            obtain ⟨rfl, rfl⟩ := h26
            refine x_istore_n hκ dX8_expression_29 (by rw [hL]; decide) rfl ?_
            refine x_iload_n hκ dX8_expression_30 rfl ?_
            refine x_if_eq (tgt := 93) hκ dX8_expression_31 (by decide) (fun c31 => ?_) (fun c31 => ?_)
            · -- X8_expression 31T
              have i31 := c31
              simp (disch := omega) only [i32_lt, i32_le, i32_eq, Int32.reduceToInt, nI_toInt] at i31
              exact absurd c31 (by decide)
            · -- X8_expression 31F
              have i31 := c31
              simp (disch := omega) only [i32_lt, i32_le, i32_eq, Int32.reduceToInt, nI_toInt] at i31
              refine x_iload_n hκ dX8_expression_34 rfl ?_
              refine x_bipush (v := 33) hκ dX8_expression_35 (by decide) ?_
              refine x_icmp_eq (tgt := 46) hκ dX8_expression_37 (by decide) (fun c37 => ?_) (fun c37 => ?_)
              · -- X8_expression 37T
                have i37 := c37
                simp (disch := omega) only [i32_lt, i32_le, i32_eq, Int32.reduceToInt, nI_toInt] at i37
                have hc : cur (σ.2 0) N (skp (σ.2 0) N b) = 33 ∨ cur (σ.2 0) N (skp (σ.2 0) N b) = 40 := by rw [hsk]; first | exact Or.inl c37 | exact Or.inr c43
                rw [mx_open hc, hsk] at hmx
                have hb1N : b1 < N := hcl (fun z => by rw [hsk, z] at hc; rcases hc with y | y <;> exact absurd y (by decide))
                refine x_aload_n hκ dX8_expression_46 rfl ?_
                refine x_iload_n hκ dX8_expression_47 rfl ?_
                refine x_bipush (v := 33) hκ dX8_expression_48 (by decide) ?_
                refine x_icmp_ne (tgt := 57) hκ dX8_expression_50 (by decide) (fun c50 => ?_) (fun c50 => ?_)
                · -- X8_expression 50T
                  have i50 := c50
                  simp (disch := omega) only [i32_lt, i32_le, i32_eq, Int32.reduceToInt, nI_toInt] at i50
                  exact absurd c37 c50
                · -- X8_expression 50F
                  have i50 := c50
                  simp (disch := omega) only [i32_lt, i32_le, i32_eq, Int32.reduceToInt, nI_toInt] at i50
                  refine x_iconst (v := 3) hκ dX8_expression_53 (by decide) ?_
                  refine x_goto (tgt := 58) hκ dX8_expression_54 (by decide) ?_
                  refine t_callv hκ (mX8_opens hθ (x := 3) (Or.inr rfl) hP1 (by omega) (by omega) (by omega)) (by omega) (by decide) wX8_167 aX8_opens rfl (Nat.le_of_ble_eq_true rfl) dX8_expression_58 (fun σ58 h58 => ?_)
                  refine x_goto (tgt := 228) hκ dX8_expression_61 (by decide) ?_
                  refine x_goto (tgt := 14) hκ dX8_expression_228 (by decide) ?_
                  rw [if_pos c37] at hmx
                  by_cases hd : dep W = 8
                  · rw [if_pos hd] at hmx
                    rw [h58.1 hd]
                    exact J14f b1 _ _ _ (by omega) hmx.symm ⟨b1, W, o1, by omega, hP1.flt hneg⟩
                  · rw [if_neg hd] at hmx
                    exact ih (b1 + 1) true (3 :: W) o1 σ58 _ (by omega) (by omega) (by rw [List.length_cons]; omega) (h58.2 hd) hmx
              · -- X8_expression 37F
                have i37 := c37
                simp (disch := omega) only [i32_lt, i32_le, i32_eq, Int32.reduceToInt, nI_toInt] at i37
                refine x_iload_n hκ dX8_expression_40 rfl ?_
                refine x_bipush (v := 40) hκ dX8_expression_41 (by decide) ?_
                refine x_icmp_ne (tgt := 64) hκ dX8_expression_43 (by decide) (fun c43 => ?_) (fun c43 => ?_)
                · -- X8_expression 43T
                  have i43 := c43
                  simp (disch := omega) only [i32_lt, i32_le, i32_eq, Int32.reduceToInt, nI_toInt] at i43
                  have hc : ¬ (cur (σ.2 0) N (skp (σ.2 0) N b) = 33 ∨ cur (σ.2 0) N (skp (σ.2 0) N b) = 40) := by rw [hsk]; exact fun z => z.elim c37 c43
                  refine x_aload_n hκ dX8_expression_64 rfl ?_
                  refine x_iload_n hκ dX8_expression_65 rfl ?_
                  refine t_calli hκ (mX8_atom hθ (a := b1) (N := N) (m := o1.length) (by exact rfl) (by exact e1) hN (by omega) (by exact hP.2.2.2.2.2.1) (by omega)) (by omega) (by decide) wX8_170 aX8_atom rfl (Nat.le_of_ble_eq_true rfl) dX8_expression_66 (fun r66 σ66 h66 => ?_)
                  rw [show (tS σc 9 (nI b1)).2 0 = σ.2 0 from e0] at h66
                  cases hat : atm (σ.2 0) N b1 (cur (σ.2 0) N b1) with
                  | none =>
                    obtain ⟨rfl, rfl⟩ := h66.1 hat
                    rw [mx_none hc (by rw [hsk]; exact hat), hsk] at hmx
                    refine x_if_eq (tgt := 82) hκ dX8_expression_69 (by decide) (fun c69 => ?_) (fun c69 => ?_)
                    · -- X8_expression 69T
                      have i69 := c69
                      simp (disch := omega) only [i32_lt, i32_le, i32_eq, Int32.reduceToInt, nI_toInt] at i69
                      refine x_aload_n hκ dX8_expression_82 rfl ?_
                      refine x_aload_n hκ dX8_expression_83 rfl ?_
                      refine t_get hκ fl8_9 (by decide) (by decide) rfl (by (try simp (disch := omega) only [tS_1, tS_2, tA_1, tA_2, tF_1, tF_2, xl_0, xl_1, xl_2, Nat.reduceEqDiff, ↓reduceIte, nI_add, nI_1, nm_2, nm_3, nm_4, nm_6, nm_7, nm_8, nm_12, nm_16, nm_24, nm_40, nm_180, nm_300, nm_10210, na_0, na_2, na_3, na_4, na_5, na_6, na_7, na_8, nm_p, nm_m, nI_clamp]); exact rfl) dX8_expression_84 ?_
                      refine t_callv hκ (mX8_fails hθ) (by omega) (by decide) wX8_142 aX8_fails rfl (Nat.le_of_ble_eq_true rfl) dX8_expression_87 (fun σ87 h87 => ?_)
                      subst h87
                      refine x_goto (tgt := 228) hκ dX8_expression_90 (by decide) ?_
                      refine x_goto (tgt := 14) hκ dX8_expression_228 (by decide) ?_
                      exact J14f b1 _ _ _ (by omega) hmx.symm ⟨b1, W, o1, by omega, hP1.flt hneg⟩
                    · -- X8_expression 69F
                      have i69 := c69
                      simp (disch := omega) only [i32_lt, i32_le, i32_eq, Int32.reduceToInt, nI_toInt] at i69
                      exact absurd rfl c69
                  | some zz =>
                    have hb1N := atm_lt hat
                    cases zz with
                    | inl p =>
                      obtain ⟨rfl, b2, x, hb2, rfl⟩ := h66.2.1 p hat
                      rw [mx_bad hc (by rw [hsk]; exact hat)] at hmx
                      have hpp := atm_p hat
                      have hPp : PW (tS σ 10 (nI p)) b2 W (o1 ++ [x]) (putR (flt (tS (tS σc 9 (nI b1)) 9 (nI b2)) p) o1.length x) := ((hP1.at (b := b2)).flt hneg).put (by omega) x
                      refine x_if_eq (tgt := 82) hκ dX8_expression_69 (by decide) (fun c69 => ?_) (fun c69 => ?_)
                      · -- X8_expression 69T
                        have i69 := c69
                        simp (disch := omega) only [i32_lt, i32_le, i32_eq, Int32.reduceToInt, nI_toInt] at i69
                        exact absurd c69 (by decide)
                      · -- X8_expression 69F
                        have i69 := c69
                        simp (disch := omega) only [i32_lt, i32_le, i32_eq, Int32.reduceToInt, nI_toInt] at i69
                        refine x_aload_n hκ dX8_expression_72 rfl ?_
                        refine x_iconst (v := 3) hκ dX8_expression_73 (by decide) ?_
                        refine t_callv hκ (mX8_settle hθ (m := 3) (by decide) hPp) (by omega) (by decide) wX8_174 aX8_settle rfl (Nat.le_of_ble_eq_true rfl) dX8_expression_74 (fun σ74 h74 => ?_)
                        refine x_iconst (v := 0) hκ dX8_expression_77 (by decide) ?_
                        refine x_istore_n hκ dX8_expression_78 (by rw [hL]; decide) rfl ?_
                        refine x_goto (tgt := 228) hκ dX8_expression_79 (by decide) ?_
                        refine x_goto (tgt := 14) hκ dX8_expression_228 (by decide) ?_
                        exact J14f p _ _ _ (by omega) hmx.symm ⟨b2, _, _, by omega, h74⟩
                    | inr q =>
                      obtain ⟨e, x⟩ := q
                      obtain ⟨rfl, rfl⟩ := h66.2.2 e x hat
                      have hpos := atm_pos hat
                      rw [mx_atom hc (by rw [hsk]; exact hat)] at hmx
                      have hPp : PW σ e W (o1 ++ [x]) (putR (tS (tS σc 9 (nI b1)) 9 (nI e)) o1.length x) := (hP1.at (b := e)).put (by omega) x
                      have hsl := stl_len 3 W (o1 ++ [x])
                      rw [List.length_append, List.length_singleton] at hsl
                      refine x_if_eq (tgt := 82) hκ dX8_expression_69 (by decide) (fun c69 => ?_) (fun c69 => ?_)
                      · -- X8_expression 69T
                        have i69 := c69
                        simp (disch := omega) only [i32_lt, i32_le, i32_eq, Int32.reduceToInt, nI_toInt] at i69
                        exact absurd c69 (by decide)
                      · -- X8_expression 69F
                        have i69 := c69
                        simp (disch := omega) only [i32_lt, i32_le, i32_eq, Int32.reduceToInt, nI_toInt] at i69
                        refine x_aload_n hκ dX8_expression_72 rfl ?_
                        refine x_iconst (v := 3) hκ dX8_expression_73 (by decide) ?_
                        refine t_callv hκ (mX8_settle hθ (m := 3) (by decide) hPp) (by omega) (by decide) wX8_174 aX8_settle rfl (Nat.le_of_ble_eq_true rfl) dX8_expression_74 (fun σ74 h74 => ?_)
                        refine x_iconst (v := 0) hκ dX8_expression_77 (by decide) ?_
                        refine x_istore_n hκ dX8_expression_78 (by rw [hL]; decide) rfl ?_
                        refine x_goto (tgt := 228) hκ dX8_expression_79 (by decide) ?_
                        refine x_goto (tgt := 14) hκ dX8_expression_228 (by decide) ?_
                        exact ih e false _ _ _ _ (by omega) (by omega) (by omega) h74 hmx
                · -- X8_expression 43F
                  have i43 := c43
                  simp (disch := omega) only [i32_lt, i32_le, i32_eq, Int32.reduceToInt, nI_toInt] at i43
                  have hc : cur (σ.2 0) N (skp (σ.2 0) N b) = 33 ∨ cur (σ.2 0) N (skp (σ.2 0) N b) = 40 := by rw [hsk]; first | exact Or.inl c37 | exact Or.inr c43
                  rw [mx_open hc, hsk] at hmx
                  have hb1N : b1 < N := hcl (fun z => by rw [hsk, z] at hc; rcases hc with y | y <;> exact absurd y (by decide))
                  refine x_aload_n hκ dX8_expression_46 rfl ?_
                  refine x_iload_n hκ dX8_expression_47 rfl ?_
                  refine x_bipush (v := 33) hκ dX8_expression_48 (by decide) ?_
                  refine x_icmp_ne (tgt := 57) hκ dX8_expression_50 (by decide) (fun c50 => ?_) (fun c50 => ?_)
                  · -- X8_expression 50T
                    have i50 := c50
                    simp (disch := omega) only [i32_lt, i32_le, i32_eq, Int32.reduceToInt, nI_toInt] at i50
                    refine x_iconst (v := 0) hκ dX8_expression_57 (by decide) ?_
                    refine t_callv hκ (mX8_opens hθ (x := 0) (Or.inl rfl) hP1 (by omega) (by omega) (by omega)) (by omega) (by decide) wX8_167 aX8_opens rfl (Nat.le_of_ble_eq_true rfl) dX8_expression_58 (fun σ58 h58 => ?_)
                    refine x_goto (tgt := 228) hκ dX8_expression_61 (by decide) ?_
                    refine x_goto (tgt := 14) hκ dX8_expression_228 (by decide) ?_
                    rw [if_neg c50] at hmx
                    by_cases hd : dep W = 8
                    · rw [if_pos hd] at hmx
                      rw [h58.1 hd]
                      exact J14f b1 _ _ _ (by omega) hmx.symm ⟨b1, W, o1, by omega, hP1.flt hneg⟩
                    · rw [if_neg hd] at hmx
                      exact ih (b1 + 1) true (0 :: W) o1 σ58 _ (by omega) (by omega) (by rw [List.length_cons]; omega) (h58.2 hd) hmx
                  · -- X8_expression 50F
                    have i50 := c50
                    simp (disch := omega) only [i32_lt, i32_le, i32_eq, Int32.reduceToInt, nI_toInt] at i50
                    rw [c43] at c50
                    exact absurd c50 (by decide)
      | false =>
        refine x_iload_n hκ dX8_expression_14 rfl ?_
        refine x_if_eq (tgt := 231) hκ dX8_expression_15 (by decide) (fun c15 => ?_) (fun c15 => ?_)
        · -- X8_expression 15T
          have i15 := c15
          simp (disch := omega) only [i32_lt, i32_le, i32_eq, Int32.reduceToInt, nI_toInt] at i15
          exact absurd c15 (by decide)
        · -- X8_expression 15F
          have i15 := c15
          simp (disch := omega) only [i32_lt, i32_le, i32_eq, Int32.reduceToInt, nI_toInt] at i15
          refine x_aload_n hκ dX8_expression_18 rfl ?_
          refine t_get hκ fl8_10 (by decide) (by decide) rfl (by (try simp (disch := omega) only [tS_1, tS_2, tA_1, tA_2, tF_1, tF_2, xl_0, xl_1, xl_2, Nat.reduceEqDiff, ↓reduceIte, nI_add, nI_1, nm_2, nm_3, nm_4, nm_6, nm_7, nm_8, nm_12, nm_16, nm_24, nm_40, nm_180, nm_300, nm_10210, na_0, na_2, na_3, na_4, na_5, na_6, na_7, na_8, nm_p, nm_m, nI_clamp, e10]); exact rfl) dX8_expression_19 ?_
          refine x_if_ge (tgt := 231) hκ dX8_expression_22 (by decide) (fun c22 => ?_) (fun c22 => ?_)
          · -- X8_expression 22T
            have i22 := c22
            simp (disch := omega) only [i32_lt, i32_le, i32_eq, Int32.reduceToInt, nI_toInt] at i22
            exact absurd c22 (by decide)
          · -- X8_expression 22F
            have i22 := c22
            simp (disch := omega) only [i32_lt, i32_le, i32_eq, Int32.reduceToInt, nI_toInt] at i22
            refine x_aload_n hκ dX8_expression_25 rfl ?_
            refine t_calli hκ (mX8_next hθ hP.2.1 e1 hN (by omega)) (by omega) (by decide) wX8_138 aX8_next rfl (Nat.le_of_ble_eq_true rfl) dX8_expression_26 (fun r26 σ26 h26 => ?_)
            rw [e0, hsk] at h26
            obtain ⟨rfl, rfl⟩ := h26
            refine x_istore_n hκ dX8_expression_29 (by rw [hL]; decide) rfl ?_
            refine x_iload_n hκ dX8_expression_30 rfl ?_
            refine x_if_eq (tgt := 93) hκ dX8_expression_31 (by decide) (fun c31 => ?_) (fun c31 => ?_)
            · -- X8_expression 31T
              have i31 := c31
              simp (disch := omega) only [i32_lt, i32_le, i32_eq, Int32.reduceToInt, nI_toInt] at i31
              refine x_iload_n hκ dX8_expression_93 rfl ?_
              refine x_bipush (v := 38) hκ dX8_expression_94 (by decide) ?_
              refine x_icmp_eq (tgt := 105) hκ dX8_expression_96 (by decide) (fun c96 => ?_) (fun c96 => ?_)
              · -- X8_expression 96T
                have i96 := c96
                simp (disch := omega) only [i32_lt, i32_le, i32_eq, Int32.reduceToInt, nI_toInt] at i96
                have hc : cur (σ.2 0) N (skp (σ.2 0) N b) = 38 ∨ cur (σ.2 0) N (skp (σ.2 0) N b) = 124 := by rw [hsk]; first | exact Or.inl c96 | exact Or.inr c102
                rw [mx_join hc, hsk] at hmx
                have hb1N : b1 < N := hcl (fun z => by rw [hsk, z] at hc; rcases hc with y | y <;> exact absurd y (by decide))
                refine x_aload_n hκ dX8_expression_105 rfl ?_
                refine x_iload_n hκ dX8_expression_106 rfl ?_
                refine x_bipush (v := 38) hκ dX8_expression_107 (by decide) ?_
                refine x_icmp_ne (tgt := 116) hκ dX8_expression_109 (by decide) (fun c109 => ?_) (fun c109 => ?_)
                · -- X8_expression 109T
                  have i109 := c109
                  simp (disch := omega) only [i32_lt, i32_le, i32_eq, Int32.reduceToInt, nI_toInt] at i109
                  exact absurd c96 c109
                · -- X8_expression 109F
                  have i109 := c109
                  simp (disch := omega) only [i32_lt, i32_le, i32_eq, Int32.reduceToInt, nI_toInt] at i109
                  refine x_iconst (v := 2) hκ dX8_expression_112 (by decide) ?_
                  refine x_goto (tgt := 117) hκ dX8_expression_113 (by decide) ?_
                  refine t_callv hκ (mX8_settle hθ (m := 2) (by decide) hP1) (by omega) (by decide) wX8_174 aX8_settle rfl (Nat.le_of_ble_eq_true rfl) dX8_expression_117 (fun σ117 h117 => ?_)
                  have hw := h117.2.2.1
                  have ha9 := h117.2.1
                  have hsl := stl_len 2 W o1
                  refine x_aload_n hκ dX8_expression_120 rfl ?_
                  refine t_getA hκ fl8_11 (by decide) (by decide) rfl dX8_expression_121 ?_
                  refine x_aload_n hκ dX8_expression_124 rfl ?_
                  refine t_get hκ fl8_12 (by decide) (by decide) rfl (by (try simp (disch := omega) only [tS_1, tS_2, tA_1, tA_2, tF_1, tF_2, xl_0, xl_1, xl_2, Nat.reduceEqDiff, ↓reduceIte, nI_add, nI_1, nm_2, nm_3, nm_4, nm_6, nm_7, nm_8, nm_12, nm_16, nm_24, nm_40, nm_180, nm_300, nm_10210, na_0, na_2, na_3, na_4, na_5, na_6, na_7, na_8, nm_p, nm_m, nI_clamp, e10, hw, ha9]); exact rfl) dX8_expression_125 ?_
                  refine x_iload_n hκ dX8_expression_128 rfl ?_
                  refine x_bipush (v := 38) hκ dX8_expression_129 (by decide) ?_
                  refine x_icmp_ne (tgt := 138) hκ dX8_expression_131 (by decide) (fun c131 => ?_) (fun c131 => ?_)
                  · -- X8_expression 131T
                    have i131 := c131
                    simp (disch := omega) only [i32_lt, i32_le, i32_eq, Int32.reduceToInt, nI_toInt] at i131
                    exact absurd c96 c131
                  · -- X8_expression 131F
                    have i131 := c131
                    simp (disch := omega) only [i32_lt, i32_le, i32_eq, Int32.reduceToInt, nI_toInt] at i131
                    refine x_iconst (v := 2) hκ dX8_expression_134 (by decide) ?_
                    refine x_goto (tgt := 139) hκ dX8_expression_135 (by decide) ?_
                    refine t_iast (n := 96) hκ hθ (by decide) rfl rfl (by first | ((with_reducible refine vp_in_nI ?_ ?_) <;> omega) | exact i32_in (by omega) (by omega) | exact i32_in' (by simp only [Int32.toInt_add, Int32.toInt_mul, Int32.toInt_sub, Int32.reduceToInt, Int.bmod_add_bmod, Int.bmod_sub_bmod, Int.add_bmod_bmod, Int.sub_bmod_bmod, Int.bmod_mul_bmod, Int.mul_bmod_bmod]; exact i32_bm (by omega) (by omega)) (by omega) (by omega) | exact i32_in (by decide) (by decide)) (by (try simp (disch := omega) only [tS_1, tS_2, tA_1, tA_2, tF_1, tF_2, xl_0, xl_1, xl_2, Nat.reduceEqDiff, ↓reduceIte, nI_add, nI_1, nm_2, nm_3, nm_4, nm_6, nm_7, nm_8, nm_12, nm_16, nm_24, nm_40, nm_180, nm_300, nm_10210, na_0, na_2, na_3, na_4, na_5, na_6, na_7, na_8, nm_p, nm_m, nI_clamp, e10, hw, ha9]); exact rfl) dX8_expression_139 ?_
                    refine x_aload_n hκ dX8_expression_140 rfl ?_
                    refine x_dup hκ dX8_expression_141 rfl ?_
                    refine t_get hκ fl8_12 (by decide) (by decide) rfl (by (try simp (disch := omega) only [tS_1, tS_2, tA_1, tA_2, tF_1, tF_2, xl_0, xl_1, xl_2, Nat.reduceEqDiff, ↓reduceIte, nI_add, nI_1, nm_2, nm_3, nm_4, nm_6, nm_7, nm_8, nm_12, nm_16, nm_24, nm_40, nm_180, nm_300, nm_10210, na_0, na_2, na_3, na_4, na_5, na_6, na_7, na_8, nm_p, nm_m, nI_clamp, e10, hw, ha9]); exact rfl) dX8_expression_142 ?_
                    refine x_iconst (v := 1) hκ dX8_expression_145 (by decide) ?_
                    refine x_iaddN hκ (by (try simp (disch := omega) only [tS_1, tS_2, tA_1, tA_2, tF_1, tF_2, xl_0, xl_1, xl_2, Nat.reduceEqDiff, ↓reduceIte, nI_add, nI_1, nm_2, nm_3, nm_4, nm_6, nm_7, nm_8, nm_12, nm_16, nm_24, nm_40, nm_180, nm_300, nm_10210, na_0, na_2, na_3, na_4, na_5, na_6, na_7, na_8, nm_p, nm_m, nI_clamp, e10, hw, ha9]); exact rfl) dX8_expression_146 ?_
                    refine t_put hκ fl8_12 (by decide) (by decide) rfl rfl rfl dX8_expression_147 ?_
                    refine x_aload_n hκ dX8_expression_150 rfl ?_
                    refine x_dup hκ dX8_expression_151 rfl ?_
                    refine t_get hκ fl8_9 (by decide) (by decide) rfl (by (try simp (disch := omega) only [tS_1, tS_2, tA_1, tA_2, tF_1, tF_2, xl_0, xl_1, xl_2, Nat.reduceEqDiff, ↓reduceIte, nI_add, nI_1, nm_2, nm_3, nm_4, nm_6, nm_7, nm_8, nm_12, nm_16, nm_24, nm_40, nm_180, nm_300, nm_10210, na_0, na_2, na_3, na_4, na_5, na_6, na_7, na_8, nm_p, nm_m, nI_clamp, e10, hw, ha9]); exact rfl) dX8_expression_152 ?_
                    refine x_iconst (v := 1) hκ dX8_expression_155 (by decide) ?_
                    refine x_iaddN hκ (by (try simp (disch := omega) only [tS_1, tS_2, tA_1, tA_2, tF_1, tF_2, xl_0, xl_1, xl_2, Nat.reduceEqDiff, ↓reduceIte, nI_add, nI_1, nm_2, nm_3, nm_4, nm_6, nm_7, nm_8, nm_12, nm_16, nm_24, nm_40, nm_180, nm_300, nm_10210, na_0, na_2, na_3, na_4, na_5, na_6, na_7, na_8, nm_p, nm_m, nI_clamp, e10, hw, ha9]); exact rfl) dX8_expression_156 ?_
                    refine t_put hκ fl8_9 (by decide) (by decide) rfl rfl rfl dX8_expression_157 ?_
                    refine x_iconst (v := 1) hκ dX8_expression_160 (by decide) ?_
                    refine x_istore_n hκ dX8_expression_161 (by rw [hL]; decide) rfl ?_
                    refine x_goto (tgt := 228) hκ dX8_expression_162 (by decide) ?_
                    refine x_goto (tgt := 14) hκ dX8_expression_228 (by decide) ?_
                    rw [if_pos c96] at hmx
                    exact ih (b1 + 1) true (2 :: (stl 2 W o1).1) (stl 2 W o1).2 _ _ (by omega) (by omega) (by rw [List.length_cons]; omega) (h117.push (Or.inr rfl) (by omega) (by omega)) hmx
              · -- X8_expression 96F
                have i96 := c96
                simp (disch := omega) only [i32_lt, i32_le, i32_eq, Int32.reduceToInt, nI_toInt] at i96
                refine x_iload_n hκ dX8_expression_99 rfl ?_
                refine x_bipush (v := 124) hκ dX8_expression_100 (by decide) ?_
                refine x_icmp_ne (tgt := 165) hκ dX8_expression_102 (by decide) (fun c102 => ?_) (fun c102 => ?_)
                · -- X8_expression 102T
                  have i102 := c102
                  simp (disch := omega) only [i32_lt, i32_le, i32_eq, Int32.reduceToInt, nI_toInt] at i102
                  have hc : ¬ (cur (σ.2 0) N (skp (σ.2 0) N b) = 38 ∨ cur (σ.2 0) N (skp (σ.2 0) N b) = 124) := by rw [hsk]; exact fun z => z.elim c96 c102
                  refine x_iload_n hκ dX8_expression_165 rfl ?_
                  refine x_bipush (v := 41) hκ dX8_expression_166 (by decide) ?_
                  refine x_icmp_ne (tgt := 226) hκ dX8_expression_168 (by decide) (fun c168 => ?_) (fun c168 => ?_)
                  · -- X8_expression 168T
                    have i168 := c168
                    simp (disch := omega) only [i32_lt, i32_le, i32_eq, Int32.reduceToInt, nI_toInt] at i168
                    refine x_iconst (v := 0) hκ dX8_expression_226 (by decide) ?_
                    refine x_istore_n hκ dX8_expression_227 (by rw [hL]; decide) rfl ?_
                    refine x_goto (tgt := 14) hκ dX8_expression_228 (by decide) ?_
                    rw [mx_end hc (by rw [hsk]; exact c168), hsk] at hmx
                    refine x_iload_n hκ dX8_expression_14 rfl ?_
                    refine x_if_eq (tgt := 231) hκ dX8_expression_15 (by decide) (fun c15 => ?_) (fun c15 => ?_)
                    · -- X8_expression 15T
                      have i15 := c15
                      simp (disch := omega) only [i32_lt, i32_le, i32_eq, Int32.reduceToInt, nI_toInt] at i15
                      exact J231g b1 W o1 _ _ _ _ (by omega) hmx.symm hP1
                    · -- X8_expression 15F
                      have i15 := c15
                      simp (disch := omega) only [i32_lt, i32_le, i32_eq, Int32.reduceToInt, nI_toInt] at i15
                      exact absurd rfl c15
                  · -- X8_expression 168F
                    have i168 := c168
                    simp (disch := omega) only [i32_lt, i32_le, i32_eq, Int32.reduceToInt, nI_toInt] at i168
                    refine x_aload_n hκ dX8_expression_171 rfl ?_
                    refine x_iconst (v := 1) hκ dX8_expression_172 (by decide) ?_
                    refine t_callv hκ (mX8_settle hθ (m := 1) (by decide) hP1) (by omega) (by decide) wX8_174 aX8_settle rfl (Nat.le_of_ble_eq_true rfl) dX8_expression_173 (fun σ173 h173 => ?_)
                    have hw := h173.2.2.1
                    have hsl := stl_len 1 W o1
                    have hdp := h173.2.2.2.1
                    have ha9 := h173.2.1
                    have hb1N : b1 < N := hcl (fun z => by rw [z] at c168; exact absurd c168 (by decide))
                    refine x_aload_n hκ dX8_expression_176 rfl ?_
                    refine t_get hκ fl8_12 (by decide) (by decide) rfl (by (try simp (disch := omega) only [tS_1, tS_2, tA_1, tA_2, tF_1, tF_2, xl_0, xl_1, xl_2, Nat.reduceEqDiff, ↓reduceIte, nI_add, nI_1, nm_2, nm_3, nm_4, nm_6, nm_7, nm_8, nm_12, nm_16, nm_24, nm_40, nm_180, nm_300, nm_10210, na_0, na_2, na_3, na_4, na_5, na_6, na_7, na_8, nm_p, nm_m, nI_clamp, e10, hw, hdp, ha9]); exact rfl) dX8_expression_177 ?_
                    refine x_if_ne (tgt := 188) hκ dX8_expression_180 (by decide) (fun c180 => ?_) (fun c180 => ?_)
                    · -- X8_expression 180T
                      have i180 := c180
                      simp (disch := omega) only [i32_lt, i32_le, i32_eq, Int32.reduceToInt, nI_toInt] at i180
                      have hne : ∃ x V, (stl 1 W o1).1 = x :: V := by
                        cases hv : (stl 1 W o1).1 with
                        | nil => rw [hv] at i180; exact absurd rfl i180
                        | cons x V => exact ⟨x, V, rfl⟩
                      obtain ⟨x, V, hxV⟩ := hne
                      have hx0 : x = 0 := by have := stl_top W o1 x V hxV; omega
                      subst hx0
                      rw [mx_cl1 hc (by rw [hsk]; exact c168) hxV, hsk] at hmx
                      rw [hxV] at h173 hw hdp hsl
                      rw [List.length_cons] at hw hsl
                      rw [dep, if_pos (Or.inl rfl)] at hdp
                      have hpop := h173.pop0
                      have hsl2 := stl_len 3 V (stl 1 W o1).2
                      have w1 : nI (V.length + 1) - 1 = nI V.length := nI_pred _
                      have w2 : nI (1 + dep V) - 1 = nI (dep V) := by rw [Nat.add_comm]; exact nI_pred _
                      refine x_aload_n hκ dX8_expression_188 rfl ?_
                      refine x_dup hκ dX8_expression_189 rfl ?_
                      refine t_get hκ fl8_12 (by decide) (by decide) rfl (by (try simp (disch := omega) only [tS_1, tS_2, tA_1, tA_2, tF_1, tF_2, xl_0, xl_1, xl_2, Nat.reduceEqDiff, ↓reduceIte, nI_add, nI_1, nm_2, nm_3, nm_4, nm_6, nm_7, nm_8, nm_12, nm_16, nm_24, nm_40, nm_180, nm_300, nm_10210, na_0, na_2, na_3, na_4, na_5, na_6, na_7, na_8, nm_p, nm_m, nI_clamp, hw, hdp, ha9, w1, w2]); exact rfl) dX8_expression_190 ?_
                      refine x_iconst (v := 1) hκ dX8_expression_193 (by decide) ?_
                      refine x_isubN hκ (by (try simp (disch := omega) only [tS_1, tS_2, tA_1, tA_2, tF_1, tF_2, xl_0, xl_1, xl_2, Nat.reduceEqDiff, ↓reduceIte, nI_add, nI_1, nm_2, nm_3, nm_4, nm_6, nm_7, nm_8, nm_12, nm_16, nm_24, nm_40, nm_180, nm_300, nm_10210, na_0, na_2, na_3, na_4, na_5, na_6, na_7, na_8, nm_p, nm_m, nI_clamp, hw, hdp, ha9, w1, w2]); exact rfl) dX8_expression_194 ?_
                      refine t_put hκ fl8_12 (by decide) (by decide) rfl rfl rfl dX8_expression_195 ?_
                      refine x_aload_n hκ dX8_expression_198 rfl ?_
                      refine x_dup hκ dX8_expression_199 rfl ?_
                      refine t_get hκ fl8_13 (by decide) (by decide) rfl (by (try simp (disch := omega) only [tS_1, tS_2, tA_1, tA_2, tF_1, tF_2, xl_0, xl_1, xl_2, Nat.reduceEqDiff, ↓reduceIte, nI_add, nI_1, nm_2, nm_3, nm_4, nm_6, nm_7, nm_8, nm_12, nm_16, nm_24, nm_40, nm_180, nm_300, nm_10210, na_0, na_2, na_3, na_4, na_5, na_6, na_7, na_8, nm_p, nm_m, nI_clamp, hw, hdp, ha9, w1, w2]); exact rfl) dX8_expression_200 ?_
                      refine x_iconst (v := 1) hκ dX8_expression_203 (by decide) ?_
                      refine x_isubN hκ (by (try simp (disch := omega) only [tS_1, tS_2, tA_1, tA_2, tF_1, tF_2, xl_0, xl_1, xl_2, Nat.reduceEqDiff, ↓reduceIte, nI_add, nI_1, nm_2, nm_3, nm_4, nm_6, nm_7, nm_8, nm_12, nm_16, nm_24, nm_40, nm_180, nm_300, nm_10210, na_0, na_2, na_3, na_4, na_5, na_6, na_7, na_8, nm_p, nm_m, nI_clamp, hw, hdp, ha9, w1, w2]); exact rfl) dX8_expression_204 ?_
                      refine t_put hκ fl8_13 (by decide) (by decide) rfl rfl rfl dX8_expression_205 ?_
                      refine x_aload_n hκ dX8_expression_208 rfl ?_
                      refine x_dup hκ dX8_expression_209 rfl ?_
                      refine t_get hκ fl8_9 (by decide) (by decide) rfl (by (try simp (disch := omega) only [tS_1, tS_2, tA_1, tA_2, tF_1, tF_2, xl_0, xl_1, xl_2, Nat.reduceEqDiff, ↓reduceIte, nI_add, nI_1, nm_2, nm_3, nm_4, nm_6, nm_7, nm_8, nm_12, nm_16, nm_24, nm_40, nm_180, nm_300, nm_10210, na_0, na_2, na_3, na_4, na_5, na_6, na_7, na_8, nm_p, nm_m, nI_clamp, hw, hdp, ha9, w1, w2]); exact rfl) dX8_expression_210 ?_
                      refine x_iconst (v := 1) hκ dX8_expression_213 (by decide) ?_
                      refine x_iaddN hκ (by (try simp (disch := omega) only [tS_1, tS_2, tA_1, tA_2, tF_1, tF_2, xl_0, xl_1, xl_2, Nat.reduceEqDiff, ↓reduceIte, nI_add, nI_1, nm_2, nm_3, nm_4, nm_6, nm_7, nm_8, nm_12, nm_16, nm_24, nm_40, nm_180, nm_300, nm_10210, na_0, na_2, na_3, na_4, na_5, na_6, na_7, na_8, nm_p, nm_m, nI_clamp, hw, hdp, ha9, w1, w2]); exact rfl) dX8_expression_214 ?_
                      refine t_put hκ fl8_9 (by decide) (by decide) rfl rfl rfl dX8_expression_215 ?_
                      refine x_aload_n hκ dX8_expression_218 rfl ?_
                      refine x_iconst (v := 3) hκ dX8_expression_219 (by decide) ?_
                      refine t_callv hκ (mX8_settle hθ (m := 3) (by decide) hpop) (by omega) (by decide) wX8_174 aX8_settle rfl (Nat.le_of_ble_eq_true rfl) dX8_expression_220 (fun σ220 h220 => ?_)
                      refine x_goto (tgt := 228) hκ dX8_expression_223 (by decide) ?_
                      refine x_goto (tgt := 14) hκ dX8_expression_228 (by decide) ?_
                      exact ih (b1 + 1) false _ _ _ _ (by omega) (by omega) (by omega) h220 hmx
                    · -- X8_expression 180F
                      have i180 := c180
                      simp (disch := omega) only [i32_lt, i32_le, i32_eq, Int32.reduceToInt, nI_toInt] at i180
                      refine x_iconst (v := 0) hκ dX8_expression_183 (by decide) ?_
                      refine x_istore_n hκ dX8_expression_184 (by rw [hL]; decide) rfl ?_
                      refine x_goto (tgt := 228) hκ dX8_expression_185 (by decide) ?_
                      refine x_goto (tgt := 14) hκ dX8_expression_228 (by decide) ?_
                      have hnil : (stl 1 W o1).1 = [] := List.eq_nil_of_length_eq_zero (by omega)
                      rw [mx_cl0 hc (by rw [hsk]; exact c168) hnil, hsk] at hmx
                      rw [hnil] at h173
                      refine x_iload_n hκ dX8_expression_14 rfl ?_
                      refine x_if_eq (tgt := 231) hκ dX8_expression_15 (by decide) (fun c15 => ?_) (fun c15 => ?_)
                      · -- X8_expression 15T
                        have i15 := c15
                        simp (disch := omega) only [i32_lt, i32_le, i32_eq, Int32.reduceToInt, nI_toInt] at i15
                        exact J231g b1 [] _ _ _ _ _ (by omega) hmx.symm h173
                      · -- X8_expression 15F
                        have i15 := c15
                        simp (disch := omega) only [i32_lt, i32_le, i32_eq, Int32.reduceToInt, nI_toInt] at i15
                        exact absurd rfl c15
                · -- X8_expression 102F
                  have i102 := c102
                  simp (disch := omega) only [i32_lt, i32_le, i32_eq, Int32.reduceToInt, nI_toInt] at i102
                  have hc : cur (σ.2 0) N (skp (σ.2 0) N b) = 38 ∨ cur (σ.2 0) N (skp (σ.2 0) N b) = 124 := by rw [hsk]; first | exact Or.inl c96 | exact Or.inr c102
                  rw [mx_join hc, hsk] at hmx
                  have hb1N : b1 < N := hcl (fun z => by rw [hsk, z] at hc; rcases hc with y | y <;> exact absurd y (by decide))
                  refine x_aload_n hκ dX8_expression_105 rfl ?_
                  refine x_iload_n hκ dX8_expression_106 rfl ?_
                  refine x_bipush (v := 38) hκ dX8_expression_107 (by decide) ?_
                  refine x_icmp_ne (tgt := 116) hκ dX8_expression_109 (by decide) (fun c109 => ?_) (fun c109 => ?_)
                  · -- X8_expression 109T
                    have i109 := c109
                    simp (disch := omega) only [i32_lt, i32_le, i32_eq, Int32.reduceToInt, nI_toInt] at i109
                    refine x_iconst (v := 1) hκ dX8_expression_116 (by decide) ?_
                    refine t_callv hκ (mX8_settle hθ (m := 1) (by decide) hP1) (by omega) (by decide) wX8_174 aX8_settle rfl (Nat.le_of_ble_eq_true rfl) dX8_expression_117 (fun σ117 h117 => ?_)
                    have hw := h117.2.2.1
                    have ha9 := h117.2.1
                    have hsl := stl_len 1 W o1
                    refine x_aload_n hκ dX8_expression_120 rfl ?_
                    refine t_getA hκ fl8_11 (by decide) (by decide) rfl dX8_expression_121 ?_
                    refine x_aload_n hκ dX8_expression_124 rfl ?_
                    refine t_get hκ fl8_12 (by decide) (by decide) rfl (by (try simp (disch := omega) only [tS_1, tS_2, tA_1, tA_2, tF_1, tF_2, xl_0, xl_1, xl_2, Nat.reduceEqDiff, ↓reduceIte, nI_add, nI_1, nm_2, nm_3, nm_4, nm_6, nm_7, nm_8, nm_12, nm_16, nm_24, nm_40, nm_180, nm_300, nm_10210, na_0, na_2, na_3, na_4, na_5, na_6, na_7, na_8, nm_p, nm_m, nI_clamp, e10, hw, ha9]); exact rfl) dX8_expression_125 ?_
                    refine x_iload_n hκ dX8_expression_128 rfl ?_
                    refine x_bipush (v := 38) hκ dX8_expression_129 (by decide) ?_
                    refine x_icmp_ne (tgt := 138) hκ dX8_expression_131 (by decide) (fun c131 => ?_) (fun c131 => ?_)
                    · -- X8_expression 131T
                      have i131 := c131
                      simp (disch := omega) only [i32_lt, i32_le, i32_eq, Int32.reduceToInt, nI_toInt] at i131
                      refine x_iconst (v := 1) hκ dX8_expression_138 (by decide) ?_
                      refine t_iast (n := 96) hκ hθ (by decide) rfl rfl (by first | ((with_reducible refine vp_in_nI ?_ ?_) <;> omega) | exact i32_in (by omega) (by omega) | exact i32_in' (by simp only [Int32.toInt_add, Int32.toInt_mul, Int32.toInt_sub, Int32.reduceToInt, Int.bmod_add_bmod, Int.bmod_sub_bmod, Int.add_bmod_bmod, Int.sub_bmod_bmod, Int.bmod_mul_bmod, Int.mul_bmod_bmod]; exact i32_bm (by omega) (by omega)) (by omega) (by omega) | exact i32_in (by decide) (by decide)) (by (try simp (disch := omega) only [tS_1, tS_2, tA_1, tA_2, tF_1, tF_2, xl_0, xl_1, xl_2, Nat.reduceEqDiff, ↓reduceIte, nI_add, nI_1, nm_2, nm_3, nm_4, nm_6, nm_7, nm_8, nm_12, nm_16, nm_24, nm_40, nm_180, nm_300, nm_10210, na_0, na_2, na_3, na_4, na_5, na_6, na_7, na_8, nm_p, nm_m, nI_clamp, e10, hw, ha9]); exact rfl) dX8_expression_139 ?_
                      refine x_aload_n hκ dX8_expression_140 rfl ?_
                      refine x_dup hκ dX8_expression_141 rfl ?_
                      refine t_get hκ fl8_12 (by decide) (by decide) rfl (by (try simp (disch := omega) only [tS_1, tS_2, tA_1, tA_2, tF_1, tF_2, xl_0, xl_1, xl_2, Nat.reduceEqDiff, ↓reduceIte, nI_add, nI_1, nm_2, nm_3, nm_4, nm_6, nm_7, nm_8, nm_12, nm_16, nm_24, nm_40, nm_180, nm_300, nm_10210, na_0, na_2, na_3, na_4, na_5, na_6, na_7, na_8, nm_p, nm_m, nI_clamp, e10, hw, ha9]); exact rfl) dX8_expression_142 ?_
                      refine x_iconst (v := 1) hκ dX8_expression_145 (by decide) ?_
                      refine x_iaddN hκ (by (try simp (disch := omega) only [tS_1, tS_2, tA_1, tA_2, tF_1, tF_2, xl_0, xl_1, xl_2, Nat.reduceEqDiff, ↓reduceIte, nI_add, nI_1, nm_2, nm_3, nm_4, nm_6, nm_7, nm_8, nm_12, nm_16, nm_24, nm_40, nm_180, nm_300, nm_10210, na_0, na_2, na_3, na_4, na_5, na_6, na_7, na_8, nm_p, nm_m, nI_clamp, e10, hw, ha9]); exact rfl) dX8_expression_146 ?_
                      refine t_put hκ fl8_12 (by decide) (by decide) rfl rfl rfl dX8_expression_147 ?_
                      refine x_aload_n hκ dX8_expression_150 rfl ?_
                      refine x_dup hκ dX8_expression_151 rfl ?_
                      refine t_get hκ fl8_9 (by decide) (by decide) rfl (by (try simp (disch := omega) only [tS_1, tS_2, tA_1, tA_2, tF_1, tF_2, xl_0, xl_1, xl_2, Nat.reduceEqDiff, ↓reduceIte, nI_add, nI_1, nm_2, nm_3, nm_4, nm_6, nm_7, nm_8, nm_12, nm_16, nm_24, nm_40, nm_180, nm_300, nm_10210, na_0, na_2, na_3, na_4, na_5, na_6, na_7, na_8, nm_p, nm_m, nI_clamp, e10, hw, ha9]); exact rfl) dX8_expression_152 ?_
                      refine x_iconst (v := 1) hκ dX8_expression_155 (by decide) ?_
                      refine x_iaddN hκ (by (try simp (disch := omega) only [tS_1, tS_2, tA_1, tA_2, tF_1, tF_2, xl_0, xl_1, xl_2, Nat.reduceEqDiff, ↓reduceIte, nI_add, nI_1, nm_2, nm_3, nm_4, nm_6, nm_7, nm_8, nm_12, nm_16, nm_24, nm_40, nm_180, nm_300, nm_10210, na_0, na_2, na_3, na_4, na_5, na_6, na_7, na_8, nm_p, nm_m, nI_clamp, e10, hw, ha9]); exact rfl) dX8_expression_156 ?_
                      refine t_put hκ fl8_9 (by decide) (by decide) rfl rfl rfl dX8_expression_157 ?_
                      refine x_iconst (v := 1) hκ dX8_expression_160 (by decide) ?_
                      refine x_istore_n hκ dX8_expression_161 (by rw [hL]; decide) rfl ?_
                      refine x_goto (tgt := 228) hκ dX8_expression_162 (by decide) ?_
                      refine x_goto (tgt := 14) hκ dX8_expression_228 (by decide) ?_
                      rw [if_neg c109] at hmx
                      exact ih (b1 + 1) true (1 :: (stl 1 W o1).1) (stl 1 W o1).2 _ _ (by omega) (by omega) (by rw [List.length_cons]; omega) (h117.push (Or.inl rfl) (by omega) (by omega)) hmx
                    · -- X8_expression 131F
                      have i131 := c131
                      simp (disch := omega) only [i32_lt, i32_le, i32_eq, Int32.reduceToInt, nI_toInt] at i131
                      exact absurd c131 c109
                  · -- X8_expression 109F
                    have i109 := c109
                    simp (disch := omega) only [i32_lt, i32_le, i32_eq, Int32.reduceToInt, nI_toInt] at i109
                    rw [c102] at c109
                    exact absurd c109 (by decide)
            · -- X8_expression 31F
              have i31 := c31
              simp (disch := omega) only [i32_lt, i32_le, i32_eq, Int32.reduceToInt, nI_toInt] at i31
              exact absurd rfl c31
  refine x_aload_n hκ dX8_expression_0 rfl ?_
  refine x_iconst (v := 0) hκ dX8_expression_1 (by decide) ?_
  refine t_put hκ fl8_12 (by decide) (by decide) rfl rfl rfl dX8_expression_2 ?_
  refine x_aload_n hκ dX8_expression_5 rfl ?_
  refine x_iconst (v := 0) hκ dX8_expression_6 (by decide) ?_
  refine t_put hκ fl8_13 (by decide) (by decide) rfl rfl rfl dX8_expression_7 ?_
  refine x_iconst (v := 1) hκ dX8_expression_10 (by decide) ?_
  refine x_istore_n hκ dX8_expression_11 (by rw [hL]; decide) rfl ?_
  refine x_iconst (v := 1) hκ dX8_expression_12 (by decide) ?_
  refine x_istore_n hκ dX8_expression_13 (by rw [hL]; decide) rfl ?_
  exact loop 100 a true [] o _ none (by omega) ha (by rw [List.length_nil]; omega) hex0 hres
