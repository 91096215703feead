theorem wX8_206 : GoodIn lw_all (wsV RX8 206 RX8 yX8_isSo (ws_ yX8_isSo cX8_isSo 4 (some .boolean))) := lw_V q1466 q1468 qs52 q82 q1469
theorem aX8_isSo : yX8_isSo.cls = RX8 ∧ yX8_isSo.cls ≠ "java/lang/invoke/MethodHandle" ∧ yX8_isSo.cls ≠ "java/lang/invoke/VarHandle" ∧ (parseMethodDescriptor yX8_isSo.desc).map (fun d => d.parameters.length) = some 1 := by decide +kernel
/-! the reference: holds -/
def stp (τ : Int32 → Prop) (c : Int32) (s : List Prop) : List Prop :=
  if c = 10000000 then (match s with
    | x :: t => (¬ x) :: t
    | [] => [])
  else if c = 11000000 then (match s with
    | y :: x :: t => (x ∧ y) :: t
    | s => s)
  else if c = 12000000 then (match s with
    | y :: x :: t => (x ∨ y) :: t
    | s => s)
  else (c = 9000000 ∨ τ c) :: s
theorem stp_at {τ : Int32 → Prop} {c : Int32} {s : List Prop} (h1 : ¬ c = 10000000) (h2 : ¬ c = 11000000) (h3 : ¬ c = 12000000) : stp τ c s = (c = 9000000 ∨ τ c) :: s := by
  unfold stp
  rw [if_neg h1, if_neg h2, if_neg h3]
def rpn (τ : Int32 → Prop) : List Int32 → List Prop → List Prop
  | [], s => s
  | c :: t, s => rpn τ t (stp τ c s)
def hv (τ : Int32 → Prop) (l : List Int32) : Prop := (rpn τ l []).headD False
/-- truths as a stack -/
def TSt (g : Nat → Int32) (s : List Prop) : Prop := ∀ (j : Nat) (p : Prop), s[j]? = some p → Tz p (g (s.length - 1 - j))
theorem TSt.push {g : Nat → Int32} {s : List Prop} (h : TSt g s) {p : Prop} {v : Int32} (hv : Tz p v) : TSt (upd g s.length v) (p :: s) := by
  intro j q hq
  cases j with
  | zero =>
    rw [List.getElem?_cons_zero] at hq
    cases hq
    unfold upd
    rw [if_pos (by simp)]
    exact hv
  | succ j =>
    rw [List.getElem?_cons_succ] at hq
    have hl := (List.getElem?_eq_some_iff.mp hq).1
    have := h j q hq
    unfold upd
    rw [List.length_cons, if_neg (by omega), show s.length + 1 - 1 - (j + 1) = s.length - 1 - j by omega]
    exact this
theorem TSt.top {g : Nat → Int32} {x : Prop} {t : List Prop} (h : TSt g (x :: t)) : Tz x (g t.length) := by
  have := h 0 x rfl
  rwa [List.length_cons, show t.length + 1 - 1 - 0 = t.length by omega] at this
theorem TSt.tail {g : Nat → Int32} {x : Prop} {t : List Prop} (h : TSt g (x :: t)) : TSt g t := by
  intro j q hq
  have hl := (List.getElem?_eq_some_iff.mp hq).1
  have := h (j + 1) q (by rw [List.getElem?_cons_succ]; exact hq)
  rwa [List.length_cons, show t.length + 1 - 1 - (j + 1) = t.length - 1 - j by omega] at this
theorem two_of {s : List Prop} (h : 2 ≤ s.length) : ∃ (y x : Prop) (t : List Prop), s = y :: x :: t := by
  match s, h with
  | y :: x :: t, _ => exact ⟨y, x, t, rfl⟩
theorem one_of {s : List Prop} (h : 1 ≤ s.length) : ∃ (x : Prop) (t : List Prop), s = x :: t := by
  match s, h with
  | x :: t, _ => exact ⟨x, t, rfl⟩
/-- who tells an atom's truth: a case, or a letter at a box -/
def Tells (σ : TS) (τ : Int32 → Prop) : Prop := (σ.1 21 = 1 ∧ ∃ m : Nat, σ.1 60 = nI m ∧ m ≤ 180 ∧ ∀ c, τ c ↔ (σ.1 22 >>> (nI (rf (σ.2 59) c m) &&& 31)) &&& 1 = 1) ∨ (σ.1 21 = 0 ∧ ∃ l b : Nat, SoOk σ l b ∧ ∀ n : Nat, n < 9000000 → (τ (nI n) ↔ so σ l b n))
theorem mX8_holds {E : gE} {θ : TA} (hθ : tOk θ) {σ : TS} {b r : Nat} (hb : b < 3) {R : Rl} (hR : RV σ b R) {q : List Int32 × List Int32} (hq : R[r]? = some q) {τ : Int32 → Prop} (hτ : Tells σ τ) : TMi E θ σ yX8_holds cX8_holds 6 .boolean 2 [.int (nI b), .int (nI r)] (fun z σ' => Tz (hv τ q.1) z ∧ ∃ g : Nat → Int32, σ' = tF σ 20 g) := by
  refine TMi.of (by decide) (Nat.le_of_ble_eq_true rfl) ?_
  rintro κ rfl hL hκ hr
  obtain ⟨hA, -, -, hw⟩ := hR.2.2.2.2 r q hq
  have hr6 : r < R.length := (List.getElem?_eq_some_iff.mp hq).1
  have hl6 := hR.2.1
  have e1 := hR.2.2.2.1 r (by omega)
  have e2 := hR.2.2.2.1 (r + 1) (by omega)
  have e2' : σ.2 4 (7 * b + r + 1) = nI (preL R (r + 1)) := e2
  have e3 := preL_s hq
  have e4 : preL R (r + 1) ≤ 90 := Nat.le_trans preL_le hR.2.2.1
  have loop : ∀ (m j n : Nat) (s : List Prop) (g : Nat → Int32) (o : Option Value), j ≤ q.1.length → q.1.length - j < m → s.length = n → n ≤ j → TSt g s → wfR (q.1.drop j) n = true → rpn τ (q.1.drop j) s = rpn τ q.1 [] → X κ (tG (kE κ) θ (tF σ 20 g)) 0 0 15 [some (.ref θ.1), some (.int (nI b)), some (.int (nI r)), some (.int (nI n)), some (.int (nI (preL R r + j))), o] [] := by
    intro m
    induction m with
    | zero => intro j n s g o h1 h2; exact absurd h2 (Nat.not_lt_zero _)
    | succ m ih =>
      intro j n s g o hj hm hs hn hg hwf he
      have a0 : 180 * b + (preL R r + j) = 180 * b + preL R r + j := by omega
      refine x_iload hκ dX8_holds_15 rfl ?_
      refine x_aload_n hκ dX8_holds_17 rfl ?_
      refine t_getA hκ fl8_4 (by decide) (by decide) rfl dX8_holds_18 ?_
      refine x_bipush (v := 7) hκ dX8_holds_21 (by decide) ?_
      refine x_iload_n hκ dX8_holds_23 rfl ?_
      refine x_imulN hκ (by (try simp (disch := omega) only [tS_1, tS_2, tA_1, tA_2, tF_1, tF_2, xl_0, xl_1, xl_2, Nat.reduceEqDiff, ↓reduceIte, nI_add, nI_1, nm_2, nm_3, nm_4, nm_6, nm_7, nm_8, nm_12, nm_16, nm_24, nm_40, nm_180, nm_300, nm_10210, na_0, na_2, na_3, na_4, na_5, na_6, na_7, na_8, nm_p, nm_m, nI_clamp, e2', a0]); exact rfl) dX8_holds_24 ?_
      refine x_iload_n hκ dX8_holds_25 rfl ?_
      refine x_iaddN hκ (by (try simp (disch := omega) only [tS_1, tS_2, tA_1, tA_2, tF_1, tF_2, xl_0, xl_1, xl_2, Nat.reduceEqDiff, ↓reduceIte, nI_add, nI_1, nm_2, nm_3, nm_4, nm_6, nm_7, nm_8, nm_12, nm_16, nm_24, nm_40, nm_180, nm_300, nm_10210, na_0, na_2, na_3, na_4, na_5, na_6, na_7, na_8, nm_p, nm_m, nI_clamp, e2', a0]); exact rfl) dX8_holds_26 ?_
      refine x_iconst (v := 1) hκ dX8_holds_27 (by decide) ?_
      refine x_iaddN hκ (by (try simp (disch := omega) only [tS_1, tS_2, tA_1, tA_2, tF_1, tF_2, xl_0, xl_1, xl_2, Nat.reduceEqDiff, ↓reduceIte, nI_add, nI_1, nm_2, nm_3, nm_4, nm_6, nm_7, nm_8, nm_12, nm_16, nm_24, nm_40, nm_180, nm_300, nm_10210, na_0, na_2, na_3, na_4, na_5, na_6, na_7, na_8, nm_p, nm_m, nI_clamp, e2', a0]); exact rfl) dX8_holds_28 ?_
      refine t_iald (n := 21) hκ hθ (by decide) rfl rfl (by first | ((with_reducible refine vp_in_nI ?_ ?_) <;> omega) | exact i32_in (by omega) (by omega) | exact i32_in' (by simp only [Int32.toInt_add, Int32.toInt_mul, Int32.toInt_sub, Int32.reduceToInt, Int.bmod_add_bmod, Int.bmod_sub_bmod, Int.add_bmod_bmod, Int.sub_bmod_bmod, Int.bmod_mul_bmod, Int.mul_bmod_bmod]; exact i32_bm (by omega) (by omega)) (by omega) (by omega) | exact i32_in (by decide) (by decide)) (by (try simp (disch := omega) only [tS_1, tS_2, tA_1, tA_2, tF_1, tF_2, xl_0, xl_1, xl_2, Nat.reduceEqDiff, ↓reduceIte, nI_add, nI_1, nm_2, nm_3, nm_4, nm_6, nm_7, nm_8, nm_12, nm_16, nm_24, nm_40, nm_180, nm_300, nm_10210, na_0, na_2, na_3, na_4, na_5, na_6, na_7, na_8, nm_p, nm_m, nI_clamp, e2', a0]); exact rfl) dX8_holds_29 ?_
      refine x_icmp_ge (tgt := 233) hκ dX8_holds_30 (by decide) (fun c30 => ?_) (fun c30 => ?_)
      · -- X8_holds 30T
        have i30 := c30
        simp (disch := omega) only [i32_lt, i32_le, i32_eq, Int32.reduceToInt, nI_toInt] at i30
        obtain rfl : j = q.1.length := by omega
        rw [List.drop_length, wfR, beq_iff_eq] at hwf
        rw [List.drop_length, rpn] at he
        obtain ⟨x, t, rfl⟩ := one_of (by omega : 1 ≤ s.length)
        rw [List.length_cons] at hs
        have ht := hg.top
        rw [show t.length = 0 by omega] at ht
        refine x_aload_n hκ dX8_holds_233 rfl ?_
        refine t_getA hκ fl8_20 (by decide) (by decide) rfl dX8_holds_234 ?_
        refine x_iconst (v := 0) hκ dX8_holds_237 (by decide) ?_
        refine t_zald (n := 96) hκ hθ (by decide) rfl rfl (by first | ((with_reducible refine vp_in_nI ?_ ?_) <;> omega) | exact i32_in (by omega) (by omega) | exact i32_in' (by simp only [Int32.toInt_add, Int32.toInt_mul, Int32.toInt_sub, Int32.reduceToInt, Int.bmod_add_bmod, Int.bmod_sub_bmod, Int.add_bmod_bmod, Int.sub_bmod_bmod, Int.bmod_mul_bmod, Int.mul_bmod_bmod]; exact i32_bm (by omega) (by omega)) (by omega) (by omega) | exact i32_in (by decide) (by decide)) (by (try simp (disch := omega) only [tS_1, tS_2, tA_1, tA_2, tF_1, tF_2, xl_0, xl_1, xl_2, Nat.reduceEqDiff, ↓reduceIte, nI_add, nI_1, nm_2, nm_3, nm_4, nm_6, nm_7, nm_8, nm_12, nm_16, nm_24, nm_40, nm_180, nm_300, nm_10210, na_0, na_2, na_3, na_4, na_5, na_6, na_7, na_8, nm_p, nm_m, nI_clamp, e2', a0]); exact rfl) dX8_holds_238 ?_
        refine t_retz hκ hr rfl dX8_holds_239 ht.b ?_
        refine ⟨?_, g, rfl⟩
        unfold hv
        rw [← he]
        exact ht
      · -- X8_holds 30F
        have i30 := c30
        simp (disch := omega) only [i32_lt, i32_le, i32_eq, Int32.reduceToInt, nI_toInt] at i30
        refine x_aload_n hκ dX8_holds_33 rfl ?_
        refine t_getA hκ fl8_3 (by decide) (by decide) rfl dX8_holds_34 ?_
        refine x_sipush (v := 180) hκ dX8_holds_37 (by decide) ?_
        refine x_iload_n hκ dX8_holds_40 rfl ?_
        refine x_imulN hκ (by (try simp (disch := omega) only [tS_1, tS_2, tA_1, tA_2, tF_1, tF_2, xl_0, xl_1, xl_2, Nat.reduceEqDiff, ↓reduceIte, nI_add, nI_1, nm_2, nm_3, nm_4, nm_6, nm_7, nm_8, nm_12, nm_16, nm_24, nm_40, nm_180, nm_300, nm_10210, na_0, na_2, na_3, na_4, na_5, na_6, na_7, na_8, nm_p, nm_m, nI_clamp, e2', a0]); exact rfl) dX8_holds_41 ?_
        refine x_iload hκ dX8_holds_42 rfl ?_
        refine x_iaddN hκ (by (try simp (disch := omega) only [tS_1, tS_2, tA_1, tA_2, tF_1, tF_2, xl_0, xl_1, xl_2, Nat.reduceEqDiff, ↓reduceIte, nI_add, nI_1, nm_2, nm_3, nm_4, nm_6, nm_7, nm_8, nm_12, nm_16, nm_24, nm_40, nm_180, nm_300, nm_10210, na_0, na_2, na_3, na_4, na_5, na_6, na_7, na_8, nm_p, nm_m, nI_clamp, e2', a0]); exact rfl) dX8_holds_44 ?_
        refine t_iald (n := 540) hκ hθ (by decide) rfl rfl (by first | ((with_reducible refine vp_in_nI ?_ ?_) <;> omega) | exact i32_in (by omega) (by omega) | exact i32_in' (by simp only [Int32.toInt_add, Int32.toInt_mul, Int32.toInt_sub, Int32.reduceToInt, Int.bmod_add_bmod, Int.bmod_sub_bmod, Int.add_bmod_bmod, Int.sub_bmod_bmod, Int.bmod_mul_bmod, Int.mul_bmod_bmod]; exact i32_bm (by omega) (by omega)) (by omega) (by omega) | exact i32_in (by decide) (by decide)) (by (try simp (disch := omega) only [tS_1, tS_2, tA_1, tA_2, tF_1, tF_2, xl_0, xl_1, xl_2, Nat.reduceEqDiff, ↓reduceIte, nI_add, nI_1, nm_2, nm_3, nm_4, nm_6, nm_7, nm_8, nm_12, nm_16, nm_24, nm_40, nm_180, nm_300, nm_10210, na_0, na_2, na_3, na_4, na_5, na_6, na_7, na_8, nm_p, nm_m, nI_clamp, e2', a0]); exact rfl) dX8_holds_45 ?_
        refine x_istore hκ dX8_holds_46 (by rw [hL]; decide) rfl ?_
        have hjl : j < q.1.length := by omega
        have hd := hA.drop (k := j) hjl
        have hok := hw.2.1 _ (hA.at hjl)
        generalize σ.2 3 (180 * b + preL R r + j) = cd at *
        rw [hd, wfR] at hwf
        rw [hd, rpn] at he
        have go : ∀ (s' : List Prop) (g' : Nat → Int32) (n' : Nat) (o' : Option Value), s'.length = n' → n' ≤ j + 1 → TSt g' s' → wfR (q.1.drop (j + 1)) n' = true → rpn τ (q.1.drop (j + 1)) s' = rpn τ q.1 [] → X κ (tG (kE κ) θ (tF σ 20 g')) 0 0 15 [some (.ref θ.1), some (.int (nI b)), some (.int (nI r)), some (.int (nI n')), some (.int (nI (preL R r + j + 1))), o'] [] := fun s' g' n' o' k1 k2 k3 k4 k5 => ih (j + 1) n' s' g' o' (by omega) (by omega) k1 k2 k3 k4 k5
        refine x_iload hκ dX8_holds_48 rfl ?_
        refine x_ldc hκ q1400 dX8_holds_50 ?_
        refine x_icmp_ne (tgt := 82) hκ dX8_holds_52 (by decide) (fun c52 => ?_) (fun c52 => ?_)
        · -- X8_holds 52T
          have i52 := c52
          simp (disch := omega) only [i32_lt, i32_le, i32_eq, Int32.reduceToInt, nI_toInt] at i52
          refine x_iload hκ dX8_holds_82 rfl ?_
          refine x_ldc hκ q1401 dX8_holds_84 ?_
          refine x_icmp_eq (tgt := 96) hκ dX8_holds_86 (by decide) (fun c86 => ?_) (fun c86 => ?_)
          · -- X8_holds 86T
            have i86 := c86
            simp (disch := omega) only [i32_lt, i32_le, i32_eq, Int32.reduceToInt, nI_toInt] at i86
            have c2 : cd = 11000000 ∨ cd = 12000000 := by first | exact Or.inl c86 | exact Or.inr c93
            rw [if_neg c52, if_pos c2, Bool.and_eq_true, decide_eq_true_eq] at hwf
            obtain ⟨y, x, t, rfl⟩ := two_of (by omega : 2 ≤ s.length)
            rw [List.length_cons, List.length_cons] at hs
            rw [stp, if_neg c52] at he
            have e9 : n - 1 - 1 = t.length := by omega
            have e8 : n - 1 = t.length + 1 := by omega
            have hy := hg.top
            have hx := hg.tail.top
            rw [List.length_cons] at hy
            refine x_iincN (y := (-1)) hκ dX8_holds_96 (by decide) rfl (by rw [hL]; decide) rfl (by (try simp (disch := omega) only [tS_1, tS_2, tA_1, tA_2, tF_1, tF_2, xl_0, xl_1, xl_2, Nat.reduceEqDiff, ↓reduceIte, nI_add, nI_1, nm_2, nm_3, nm_4, nm_6, nm_7, nm_8, nm_12, nm_16, nm_24, nm_40, nm_180, nm_300, nm_10210, na_0, na_2, na_3, na_4, na_5, na_6, na_7, na_8, nm_p, nm_m, nI_clamp, e2', a0]); exact rfl) ?_
            refine x_aload_n hκ dX8_holds_99 rfl ?_
            refine t_getA hκ fl8_20 (by decide) (by decide) rfl dX8_holds_100 ?_
            refine x_iload_n hκ dX8_holds_103 rfl ?_
            refine x_iconst (v := 1) hκ dX8_holds_104 (by decide) ?_
            refine x_isubN hκ (by (try simp (disch := omega) only [tS_1, tS_2, tA_1, tA_2, tF_1, tF_2, xl_0, xl_1, xl_2, Nat.reduceEqDiff, ↓reduceIte, nI_add, nI_1, nm_2, nm_3, nm_4, nm_6, nm_7, nm_8, nm_12, nm_16, nm_24, nm_40, nm_180, nm_300, nm_10210, na_0, na_2, na_3, na_4, na_5, na_6, na_7, na_8, nm_p, nm_m, nI_clamp, e2', a0]); exact rfl) dX8_holds_105 ?_
            refine x_iload hκ dX8_holds_106 rfl ?_
            refine x_ldc hκ q1401 dX8_holds_108 ?_
            refine x_icmp_ne (tgt := 141) hκ dX8_holds_110 (by decide) (fun c110 => ?_) (fun c110 => ?_)
            · -- X8_holds 110T
              have i110 := c110
              simp (disch := omega) only [i32_lt, i32_le, i32_eq, Int32.reduceToInt, nI_toInt] at i110
              exact absurd c86 c110
            · -- X8_holds 110F
              have i110 := c110
              simp (disch := omega) only [i32_lt, i32_le, i32_eq, Int32.reduceToInt, nI_toInt] at i110
              refine x_aload_n hκ dX8_holds_113 rfl ?_
              refine t_getA hκ fl8_20 (by decide) (by decide) rfl dX8_holds_114 ?_
              refine x_iload_n hκ dX8_holds_117 rfl ?_
              refine x_iconst (v := 1) hκ dX8_holds_118 (by decide) ?_
              refine x_isubN hκ (by (try simp (disch := omega) only [tS_1, tS_2, tA_1, tA_2, tF_1, tF_2, xl_0, xl_1, xl_2, Nat.reduceEqDiff, ↓reduceIte, nI_add, nI_1, nm_2, nm_3, nm_4, nm_6, nm_7, nm_8, nm_12, nm_16, nm_24, nm_40, nm_180, nm_300, nm_10210, na_0, na_2, na_3, na_4, na_5, na_6, na_7, na_8, nm_p, nm_m, nI_clamp, e2', a0]); exact rfl) dX8_holds_119 ?_
              refine t_zald (n := 96) hκ hθ (by decide) rfl rfl (by first | ((with_reducible refine vp_in_nI ?_ ?_) <;> omega) | exact i32_in (by omega) (by omega) | exact i32_in' (by simp only [Int32.toInt_add, Int32.toInt_mul, Int32.toInt_sub, Int32.reduceToInt, Int.bmod_add_bmod, Int.bmod_sub_bmod, Int.add_bmod_bmod, Int.sub_bmod_bmod, Int.bmod_mul_bmod, Int.mul_bmod_bmod]; exact i32_bm (by omega) (by omega)) (by omega) (by omega) | exact i32_in (by decide) (by decide)) (by (try simp (disch := omega) only [tS_1, tS_2, tA_1, tA_2, tF_1, tF_2, xl_0, xl_1, xl_2, Nat.reduceEqDiff, ↓reduceIte, nI_add, nI_1, nm_2, nm_3, nm_4, nm_6, nm_7, nm_8, nm_12, nm_16, nm_24, nm_40, nm_180, nm_300, nm_10210, na_0, na_2, na_3, na_4, na_5, na_6, na_7, na_8, nm_p, nm_m, nI_clamp, e2', a0]); exact rfl) dX8_holds_120 ?_
              refine x_if_eq (tgt := 137) hκ dX8_holds_121 (by decide) (fun c121 => ?_) (fun c121 => ?_)
              · -- X8_holds 121T
                have i121 := c121
                simp (disch := omega) only [i32_lt, i32_le, i32_eq, Int32.reduceToInt, nI_toInt] at i121
                refine x_iconst (v := 0) hκ dX8_holds_137 (by decide) ?_
                refine x_goto (tgt := 166) hκ dX8_holds_138 (by decide) ?_
                refine t_zast (n := 96) hκ hθ (by decide) rfl rfl (by first | ((with_reducible refine vp_in_nI ?_ ?_) <;> omega) | exact i32_in (by omega) (by omega) | exact i32_in' (by simp only [Int32.toInt_add, Int32.toInt_mul, Int32.toInt_sub, Int32.reduceToInt, Int.bmod_add_bmod, Int.bmod_sub_bmod, Int.add_bmod_bmod, Int.sub_bmod_bmod, Int.bmod_mul_bmod, Int.mul_bmod_bmod]; exact i32_bm (by omega) (by omega)) (by omega) (by omega) | exact i32_in (by decide) (by decide)) (by (try simp (disch := omega) only [tS_1, tS_2, tA_1, tA_2, tF_1, tF_2, xl_0, xl_1, xl_2, Nat.reduceEqDiff, ↓reduceIte, nI_add, nI_1, nm_2, nm_3, nm_4, nm_6, nm_7, nm_8, nm_12, nm_16, nm_24, nm_40, nm_180, nm_300, nm_10210, na_0, na_2, na_3, na_4, na_5, na_6, na_7, na_8, nm_p, nm_m, nI_clamp, e2', a0]); exact rfl) (by first | exact Or.inl rfl | exact Or.inr rfl | assumption) dX8_holds_166 ?_
                refine x_goto (tgt := 227) hκ dX8_holds_167 (by decide) ?_
                refine x_iincN (y := 1) hκ dX8_holds_227 (by decide) rfl (by rw [hL]; decide) rfl (by (try simp (disch := omega) only [tS_1, tS_2, tA_1, tA_2, tF_1, tF_2, xl_0, xl_1, xl_2, Nat.reduceEqDiff, ↓reduceIte, nI_add, nI_1, nm_2, nm_3, nm_4, nm_6, nm_7, nm_8, nm_12, nm_16, nm_24, nm_40, nm_180, nm_300, nm_10210, na_0, na_2, na_3, na_4, na_5, na_6, na_7, na_8, nm_p, nm_m, nI_clamp, e2', a0]); exact rfl) ?_
                refine x_goto (tgt := 15) hκ dX8_holds_230 (by decide) ?_
                rw [tA_tF, e9]
                rw [e9] at c121
                rw [if_pos c110] at he
                exact go ((x ∧ y) :: t) _ (n - 1) _ (by rw [List.length_cons]; omega) (by omega) (hg.tail.tail.push (Tz0 (fun z => hx.f c121 z.1))) hwf.2 he
              · -- X8_holds 121F
                have i121 := c121
                simp (disch := omega) only [i32_lt, i32_le, i32_eq, Int32.reduceToInt, nI_toInt] at i121
                refine x_aload_n hκ dX8_holds_124 rfl ?_
                refine t_getA hκ fl8_20 (by decide) (by decide) rfl dX8_holds_125 ?_
                refine x_iload_n hκ dX8_holds_128 rfl ?_
                refine t_zald (n := 96) hκ hθ (by decide) rfl rfl (by first | ((with_reducible refine vp_in_nI ?_ ?_) <;> omega) | exact i32_in (by omega) (by omega) | exact i32_in' (by simp only [Int32.toInt_add, Int32.toInt_mul, Int32.toInt_sub, Int32.reduceToInt, Int.bmod_add_bmod, Int.bmod_sub_bmod, Int.add_bmod_bmod, Int.sub_bmod_bmod, Int.bmod_mul_bmod, Int.mul_bmod_bmod]; exact i32_bm (by omega) (by omega)) (by omega) (by omega) | exact i32_in (by decide) (by decide)) (by (try simp (disch := omega) only [tS_1, tS_2, tA_1, tA_2, tF_1, tF_2, xl_0, xl_1, xl_2, Nat.reduceEqDiff, ↓reduceIte, nI_add, nI_1, nm_2, nm_3, nm_4, nm_6, nm_7, nm_8, nm_12, nm_16, nm_24, nm_40, nm_180, nm_300, nm_10210, na_0, na_2, na_3, na_4, na_5, na_6, na_7, na_8, nm_p, nm_m, nI_clamp, e2', a0]); exact rfl) dX8_holds_129 ?_
                refine x_if_eq (tgt := 137) hκ dX8_holds_130 (by decide) (fun c130 => ?_) (fun c130 => ?_)
                · -- X8_holds 130T
                  have i130 := c130
                  simp (disch := omega) only [i32_lt, i32_le, i32_eq, Int32.reduceToInt, nI_toInt] at i130
                  refine x_iconst (v := 0) hκ dX8_holds_137 (by decide) ?_
                  refine x_goto (tgt := 166) hκ dX8_holds_138 (by decide) ?_
                  refine t_zast (n := 96) hκ hθ (by decide) rfl rfl (by first | ((with_reducible refine vp_in_nI ?_ ?_) <;> omega) | exact i32_in (by omega) (by omega) | exact i32_in' (by simp only [Int32.toInt_add, Int32.toInt_mul, Int32.toInt_sub, Int32.reduceToInt, Int.bmod_add_bmod, Int.bmod_sub_bmod, Int.add_bmod_bmod, Int.sub_bmod_bmod, Int.bmod_mul_bmod, Int.mul_bmod_bmod]; exact i32_bm (by omega) (by omega)) (by omega) (by omega) | exact i32_in (by decide) (by decide)) (by (try simp (disch := omega) only [tS_1, tS_2, tA_1, tA_2, tF_1, tF_2, xl_0, xl_1, xl_2, Nat.reduceEqDiff, ↓reduceIte, nI_add, nI_1, nm_2, nm_3, nm_4, nm_6, nm_7, nm_8, nm_12, nm_16, nm_24, nm_40, nm_180, nm_300, nm_10210, na_0, na_2, na_3, na_4, na_5, na_6, na_7, na_8, nm_p, nm_m, nI_clamp, e2', a0]); exact rfl) (by first | exact Or.inl rfl | exact Or.inr rfl | assumption) dX8_holds_166 ?_
                  refine x_goto (tgt := 227) hκ dX8_holds_167 (by decide) ?_
                  refine x_iincN (y := 1) hκ dX8_holds_227 (by decide) rfl (by rw [hL]; decide) rfl (by (try simp (disch := omega) only [tS_1, tS_2, tA_1, tA_2, tF_1, tF_2, xl_0, xl_1, xl_2, Nat.reduceEqDiff, ↓reduceIte, nI_add, nI_1, nm_2, nm_3, nm_4, nm_6, nm_7, nm_8, nm_12, nm_16, nm_24, nm_40, nm_180, nm_300, nm_10210, na_0, na_2, na_3, na_4, na_5, na_6, na_7, na_8, nm_p, nm_m, nI_clamp, e2', a0]); exact rfl) ?_
                  refine x_goto (tgt := 15) hκ dX8_holds_230 (by decide) ?_
                  rw [tA_tF, e9]
                  rw [e9] at c121
                  rw [e8] at c130
                  rw [if_pos c110] at he
                  exact go ((x ∧ y) :: t) _ (n - 1) _ (by rw [List.length_cons]; omega) (by omega) (hg.tail.tail.push (Tz0 (fun z => hy.f c130 z.2))) hwf.2 he
                · -- X8_holds 130F
                  have i130 := c130
                  simp (disch := omega) only [i32_lt, i32_le, i32_eq, Int32.reduceToInt, nI_toInt] at i130
                  refine x_iconst (v := 1) hκ dX8_holds_133 (by decide) ?_
                  refine x_goto (tgt := 166) hκ dX8_holds_134 (by decide) ?_
                  refine t_zast (n := 96) hκ hθ (by decide) rfl rfl (by first | ((with_reducible refine vp_in_nI ?_ ?_) <;> omega) | exact i32_in (by omega) (by omega) | exact i32_in' (by simp only [Int32.toInt_add, Int32.toInt_mul, Int32.toInt_sub, Int32.reduceToInt, Int.bmod_add_bmod, Int.bmod_sub_bmod, Int.add_bmod_bmod, Int.sub_bmod_bmod, Int.bmod_mul_bmod, Int.mul_bmod_bmod]; exact i32_bm (by omega) (by omega)) (by omega) (by omega) | exact i32_in (by decide) (by decide)) (by (try simp (disch := omega) only [tS_1, tS_2, tA_1, tA_2, tF_1, tF_2, xl_0, xl_1, xl_2, Nat.reduceEqDiff, ↓reduceIte, nI_add, nI_1, nm_2, nm_3, nm_4, nm_6, nm_7, nm_8, nm_12, nm_16, nm_24, nm_40, nm_180, nm_300, nm_10210, na_0, na_2, na_3, na_4, na_5, na_6, na_7, na_8, nm_p, nm_m, nI_clamp, e2', a0]); exact rfl) (by first | exact Or.inl rfl | exact Or.inr rfl | assumption) dX8_holds_166 ?_
                  refine x_goto (tgt := 227) hκ dX8_holds_167 (by decide) ?_
                  refine x_iincN (y := 1) hκ dX8_holds_227 (by decide) rfl (by rw [hL]; decide) rfl (by (try simp (disch := omega) only [tS_1, tS_2, tA_1, tA_2, tF_1, tF_2, xl_0, xl_1, xl_2, Nat.reduceEqDiff, ↓reduceIte, nI_add, nI_1, nm_2, nm_3, nm_4, nm_6, nm_7, nm_8, nm_12, nm_16, nm_24, nm_40, nm_180, nm_300, nm_10210, na_0, na_2, na_3, na_4, na_5, na_6, na_7, na_8, nm_p, nm_m, nI_clamp, e2', a0]); exact rfl) ?_
                  refine x_goto (tgt := 15) hκ dX8_holds_230 (by decide) ?_
                  rw [tA_tF, e9]
                  rw [e9] at c121
                  rw [e8] at c130
                  rw [if_pos c110] at he
                  exact go ((x ∧ y) :: t) _ (n - 1) _ (by rw [List.length_cons]; omega) (by omega) (hg.tail.tail.push (Tz1 ⟨hx.t c121, hy.t c130⟩)) hwf.2 he
          · -- X8_holds 86F
            have i86 := c86
            simp (disch := omega) only [i32_lt, i32_le, i32_eq, Int32.reduceToInt, nI_toInt] at i86
            refine x_iload hκ dX8_holds_89 rfl ?_
            refine x_ldc hκ q1402 dX8_holds_91 ?_
            refine x_icmp_ne (tgt := 170) hκ dX8_holds_93 (by decide) (fun c93 => ?_) (fun c93 => ?_)
            · -- X8_holds 93T
              have i93 := c93
              simp (disch := omega) only [i32_lt, i32_le, i32_eq, Int32.reduceToInt, nI_toInt] at i93
              rw [if_neg c52, if_neg (fun z => z.elim c86 c93)] at hwf
              rw [stp_at c52 c86 c93] at he
              have hs1 : ((cd = 9000000 ∨ τ cd) :: s).length = n + 1 := by rw [List.length_cons, hs]
              have hps : ∀ {v : Int32}, Tz (cd = 9000000 ∨ τ cd) v → TSt (upd g n v) ((cd = 9000000 ∨ τ cd) :: s) := fun hv => by rw [← hs]; exact hg.push hv
              have hrg : 0 ≤ cd.toInt ∧ cd.toInt ≤ 9000000 := by rcases hok with z | z | z | z; exact z; exact absurd z c52; exact absurd z c86; exact absurd z c93
              refine x_aload_n hκ dX8_holds_170 rfl ?_
              refine t_getA hκ fl8_20 (by decide) (by decide) rfl dX8_holds_171 ?_
              refine x_iload_n hκ dX8_holds_174 rfl ?_
              refine x_iload hκ dX8_holds_175 rfl ?_
              refine x_ldc hκ q1461 dX8_holds_177 ?_
              refine x_icmp_eq (tgt := 218) hκ dX8_holds_179 (by decide) (fun c179 => ?_) (fun c179 => ?_)
              · -- X8_holds 179T
                have i179 := c179
                simp (disch := omega) only [i32_lt, i32_le, i32_eq, Int32.reduceToInt, nI_toInt] at i179
                refine x_iconst (v := 1) hκ dX8_holds_218 (by decide) ?_
                refine x_goto (tgt := 223) hκ dX8_holds_219 (by decide) ?_
                refine t_zast (n := 96) hκ hθ (by decide) rfl rfl (by first | ((with_reducible refine vp_in_nI ?_ ?_) <;> omega) | exact i32_in (by omega) (by omega) | exact i32_in' (by simp only [Int32.toInt_add, Int32.toInt_mul, Int32.toInt_sub, Int32.reduceToInt, Int.bmod_add_bmod, Int.bmod_sub_bmod, Int.add_bmod_bmod, Int.sub_bmod_bmod, Int.bmod_mul_bmod, Int.mul_bmod_bmod]; exact i32_bm (by omega) (by omega)) (by omega) (by omega) | exact i32_in (by decide) (by decide)) (by (try simp (disch := omega) only [tS_1, tS_2, tA_1, tA_2, tF_1, tF_2, xl_0, xl_1, xl_2, Nat.reduceEqDiff, ↓reduceIte, nI_add, nI_1, nm_2, nm_3, nm_4, nm_6, nm_7, nm_8, nm_12, nm_16, nm_24, nm_40, nm_180, nm_300, nm_10210, na_0, na_2, na_3, na_4, na_5, na_6, na_7, na_8, nm_p, nm_m, nI_clamp, e2', a0]); exact rfl) (by first | exact Or.inl rfl | exact Or.inr rfl | assumption) dX8_holds_223 ?_
                refine x_iincN (y := 1) hκ dX8_holds_224 (by decide) rfl (by rw [hL]; decide) rfl (by (try simp (disch := omega) only [tS_1, tS_2, tA_1, tA_2, tF_1, tF_2, xl_0, xl_1, xl_2, Nat.reduceEqDiff, ↓reduceIte, nI_add, nI_1, nm_2, nm_3, nm_4, nm_6, nm_7, nm_8, nm_12, nm_16, nm_24, nm_40, nm_180, nm_300, nm_10210, na_0, na_2, na_3, na_4, na_5, na_6, na_7, na_8, nm_p, nm_m, nI_clamp, e2', a0]); exact rfl) ?_
                refine x_iincN (y := 1) hκ dX8_holds_227 (by decide) rfl (by rw [hL]; decide) rfl (by (try simp (disch := omega) only [tS_1, tS_2, tA_1, tA_2, tF_1, tF_2, xl_0, xl_1, xl_2, Nat.reduceEqDiff, ↓reduceIte, nI_add, nI_1, nm_2, nm_3, nm_4, nm_6, nm_7, nm_8, nm_12, nm_16, nm_24, nm_40, nm_180, nm_300, nm_10210, na_0, na_2, na_3, na_4, na_5, na_6, na_7, na_8, nm_p, nm_m, nI_clamp, e2', a0]); exact rfl) ?_
                refine x_goto (tgt := 15) hκ dX8_holds_230 (by decide) ?_
                rw [tA_tF]
                exact go _ _ (n + 1) _ hs1 (by omega) (hps (Tz1 (Or.inl c179))) hwf he
              · -- X8_holds 179F
                have i179 := c179
                simp (disch := omega) only [i32_lt, i32_le, i32_eq, Int32.reduceToInt, nI_toInt] at i179
                obtain ⟨cn, hcn, hcl⟩ : ∃ cn : Nat, cd = nI cn ∧ cn < 9000000 := ⟨Int32.toNatClampNeg cd, i32_nI hrg.1, by show cd.toInt.toNat < _; omega⟩
                refine x_aload_n hκ dX8_holds_182 rfl ?_
                refine t_get hκ fl8_21 (by decide) (by decide) rfl (by (try simp (disch := omega) only [tS_1, tS_2, tA_1, tA_2, tF_1, tF_2, xl_0, xl_1, xl_2, Nat.reduceEqDiff, ↓reduceIte, nI_add, nI_1, nm_2, nm_3, nm_4, nm_6, nm_7, nm_8, nm_12, nm_16, nm_24, nm_40, nm_180, nm_300, nm_10210, na_0, na_2, na_3, na_4, na_5, na_6, na_7, na_8, nm_p, nm_m, nI_clamp, e2', a0]); exact rfl) dX8_holds_183 ?_
                refine x_if_eq (tgt := 209) hκ dX8_holds_186 (by decide) (fun c186 => ?_) (fun c186 => ?_)
                · -- X8_holds 186T
                  have i186 := c186
                  simp (disch := omega) only [i32_lt, i32_le, i32_eq, Int32.reduceToInt, nI_toInt] at i186
                  obtain ⟨-, l0, b0, s1, s2⟩ : σ.1 21 = 0 ∧ ∃ l b : Nat, SoOk σ l b ∧ ∀ n : Nat, n < 9000000 → (τ (nI n) ↔ so σ l b n) := by rcases hτ with z | z; (rw [z.1] at c186; exact absurd c186 (by decide)); exact z
                  subst hcn
                  refine x_aload_n hκ dX8_holds_209 rfl ?_
                  refine x_iload hκ dX8_holds_210 rfl ?_
                  refine t_callR hκ (mX8_isSo hθ (l := l0) (b := b0) hcl s1) (by omega) (by decide) wX8_206 aX8_isSo rfl (Nat.le_of_ble_eq_true rfl) dX8_holds_212 (fun r212 h212 => ?_)
                  refine x_if_eq (tgt := 222) hκ dX8_holds_215 (by decide) (fun c215 => ?_) (fun c215 => ?_)
                  · -- X8_holds 215T
                    have i215 := h212.f c215
                    try simp only [Int32.reduceToInt] at i215
                    refine x_iconst (v := 0) hκ dX8_holds_222 (by decide) ?_
                    refine t_zast (n := 96) hκ hθ (by decide) rfl rfl (by first | ((with_reducible refine vp_in_nI ?_ ?_) <;> omega) | exact i32_in (by omega) (by omega) | exact i32_in' (by simp only [Int32.toInt_add, Int32.toInt_mul, Int32.toInt_sub, Int32.reduceToInt, Int.bmod_add_bmod, Int.bmod_sub_bmod, Int.add_bmod_bmod, Int.sub_bmod_bmod, Int.bmod_mul_bmod, Int.mul_bmod_bmod]; exact i32_bm (by omega) (by omega)) (by omega) (by omega) | exact i32_in (by decide) (by decide)) (by (try simp (disch := omega) only [tS_1, tS_2, tA_1, tA_2, tF_1, tF_2, xl_0, xl_1, xl_2, Nat.reduceEqDiff, ↓reduceIte, nI_add, nI_1, nm_2, nm_3, nm_4, nm_6, nm_7, nm_8, nm_12, nm_16, nm_24, nm_40, nm_180, nm_300, nm_10210, na_0, na_2, na_3, na_4, na_5, na_6, na_7, na_8, nm_p, nm_m, nI_clamp, e2', a0]); exact rfl) (by first | exact Or.inl rfl | exact Or.inr rfl | assumption) dX8_holds_223 ?_
                    refine x_iincN (y := 1) hκ dX8_holds_224 (by decide) rfl (by rw [hL]; decide) rfl (by (try simp (disch := omega) only [tS_1, tS_2, tA_1, tA_2, tF_1, tF_2, xl_0, xl_1, xl_2, Nat.reduceEqDiff, ↓reduceIte, nI_add, nI_1, nm_2, nm_3, nm_4, nm_6, nm_7, nm_8, nm_12, nm_16, nm_24, nm_40, nm_180, nm_300, nm_10210, na_0, na_2, na_3, na_4, na_5, na_6, na_7, na_8, nm_p, nm_m, nI_clamp, e2', a0]); exact rfl) ?_
                    refine x_iincN (y := 1) hκ dX8_holds_227 (by decide) rfl (by rw [hL]; decide) rfl (by (try simp (disch := omega) only [tS_1, tS_2, tA_1, tA_2, tF_1, tF_2, xl_0, xl_1, xl_2, Nat.reduceEqDiff, ↓reduceIte, nI_add, nI_1, nm_2, nm_3, nm_4, nm_6, nm_7, nm_8, nm_12, nm_16, nm_24, nm_40, nm_180, nm_300, nm_10210, na_0, na_2, na_3, na_4, na_5, na_6, na_7, na_8, nm_p, nm_m, nI_clamp, e2', a0]); exact rfl) ?_
                    refine x_goto (tgt := 15) hκ dX8_holds_230 (by decide) ?_
                    rw [tA_tF]
                    exact go _ _ (n + 1) _ hs1 (by omega) (hps (Tz0 (fun z => by rcases z with z | z; exact c179 z; exact i215 ((s2 cn hcl).mp z)))) hwf he
                  · -- X8_holds 215F
                    have i215 := h212.t c215
                    try simp only [Int32.reduceToInt] at i215
                    refine x_iconst (v := 1) hκ dX8_holds_218 (by decide) ?_
                    refine x_goto (tgt := 223) hκ dX8_holds_219 (by decide) ?_
                    refine t_zast (n := 96) hκ hθ (by decide) rfl rfl (by first | ((with_reducible refine vp_in_nI ?_ ?_) <;> omega) | exact i32_in (by omega) (by omega) | exact i32_in' (by simp only [Int32.toInt_add, Int32.toInt_mul, Int32.toInt_sub, Int32.reduceToInt, Int.bmod_add_bmod, Int.bmod_sub_bmod, Int.add_bmod_bmod, Int.sub_bmod_bmod, Int.bmod_mul_bmod, Int.mul_bmod_bmod]; exact i32_bm (by omega) (by omega)) (by omega) (by omega) | exact i32_in (by decide) (by decide)) (by (try simp (disch := omega) only [tS_1, tS_2, tA_1, tA_2, tF_1, tF_2, xl_0, xl_1, xl_2, Nat.reduceEqDiff, ↓reduceIte, nI_add, nI_1, nm_2, nm_3, nm_4, nm_6, nm_7, nm_8, nm_12, nm_16, nm_24, nm_40, nm_180, nm_300, nm_10210, na_0, na_2, na_3, na_4, na_5, na_6, na_7, na_8, nm_p, nm_m, nI_clamp, e2', a0]); exact rfl) (by first | exact Or.inl rfl | exact Or.inr rfl | assumption) dX8_holds_223 ?_
                    refine x_iincN (y := 1) hκ dX8_holds_224 (by decide) rfl (by rw [hL]; decide) rfl (by (try simp (disch := omega) only [tS_1, tS_2, tA_1, tA_2, tF_1, tF_2, xl_0, xl_1, xl_2, Nat.reduceEqDiff, ↓reduceIte, nI_add, nI_1, nm_2, nm_3, nm_4, nm_6, nm_7, nm_8, nm_12, nm_16, nm_24, nm_40, nm_180, nm_300, nm_10210, na_0, na_2, na_3, na_4, na_5, na_6, na_7, na_8, nm_p, nm_m, nI_clamp, e2', a0]); exact rfl) ?_
                    refine x_iincN (y := 1) hκ dX8_holds_227 (by decide) rfl (by rw [hL]; decide) rfl (by (try simp (disch := omega) only [tS_1, tS_2, tA_1, tA_2, tF_1, tF_2, xl_0, xl_1, xl_2, Nat.reduceEqDiff, ↓reduceIte, nI_add, nI_1, nm_2, nm_3, nm_4, nm_6, nm_7, nm_8, nm_12, nm_16, nm_24, nm_40, nm_180, nm_300, nm_10210, na_0, na_2, na_3, na_4, na_5, na_6, na_7, na_8, nm_p, nm_m, nI_clamp, e2', a0]); exact rfl) ?_
                    refine x_goto (tgt := 15) hκ dX8_holds_230 (by decide) ?_
                    rw [tA_tF]
                    exact go _ _ (n + 1) _ hs1 (by omega) (hps (Tz1 (Or.inr ((s2 cn hcl).mpr i215)))) hwf he
                · -- X8_holds 186F
                  have i186 := c186
                  simp (disch := omega) only [i32_lt, i32_le, i32_eq, Int32.reduceToInt, nI_toInt] at i186
                  obtain ⟨-, mm, m1, m2, m3⟩ : σ.1 21 = 1 ∧ ∃ m : Nat, σ.1 60 = nI m ∧ m ≤ 180 ∧ ∀ c, τ c ↔ (σ.1 22 >>> (nI (rf (σ.2 59) c m) &&& 31)) &&& 1 = 1 := by rcases hτ with z | z; exact z; exact absurd z.1 c186
                  refine x_aload_n hκ dX8_holds_189 rfl ?_
                  refine t_get hκ fl8_22 (by decide) (by decide) rfl (by (try simp (disch := omega) only [tS_1, tS_2, tA_1, tA_2, tF_1, tF_2, xl_0, xl_1, xl_2, Nat.reduceEqDiff, ↓reduceIte, nI_add, nI_1, nm_2, nm_3, nm_4, nm_6, nm_7, nm_8, nm_12, nm_16, nm_24, nm_40, nm_180, nm_300, nm_10210, na_0, na_2, na_3, na_4, na_5, na_6, na_7, na_8, nm_p, nm_m, nI_clamp, e2', a0]); exact rfl) dX8_holds_190 ?_
                  refine x_aload_n hκ dX8_holds_193 rfl ?_
                  refine x_iload hκ dX8_holds_194 rfl ?_
                  refine t_callR hκ (mX8_numberOf hθ (n := mm) m1 m2) (by omega) (by decide) wX8_203 aX8_numberOf rfl (Nat.le_of_ble_eq_true rfl) dX8_holds_196 (fun r196 h196 => ?_)
                  subst h196
                  refine x_ishr hκ dX8_holds_199 ?_
                  refine x_iconst (v := 1) hκ dX8_holds_200 (by decide) ?_
                  refine x_iand hκ dX8_holds_201 ?_
                  refine x_iconst (v := 1) hκ dX8_holds_202 (by decide) ?_
                  refine x_icmp_ne (tgt := 222) hκ dX8_holds_203 (by decide) (fun c203 => ?_) (fun c203 => ?_)
                  · -- X8_holds 203T
                    have i203 := c203
                    simp (disch := omega) only [i32_lt, i32_le, i32_eq, Int32.reduceToInt, nI_toInt] at i203
                    refine x_iconst (v := 0) hκ dX8_holds_222 (by decide) ?_
                    refine t_zast (n := 96) hκ hθ (by decide) rfl rfl (by first | ((with_reducible refine vp_in_nI ?_ ?_) <;> omega) | exact i32_in (by omega) (by omega) | exact i32_in' (by simp only [Int32.toInt_add, Int32.toInt_mul, Int32.toInt_sub, Int32.reduceToInt, Int.bmod_add_bmod, Int.bmod_sub_bmod, Int.add_bmod_bmod, Int.sub_bmod_bmod, Int.bmod_mul_bmod, Int.mul_bmod_bmod]; exact i32_bm (by omega) (by omega)) (by omega) (by omega) | exact i32_in (by decide) (by decide)) (by (try simp (disch := omega) only [tS_1, tS_2, tA_1, tA_2, tF_1, tF_2, xl_0, xl_1, xl_2, Nat.reduceEqDiff, ↓reduceIte, nI_add, nI_1, nm_2, nm_3, nm_4, nm_6, nm_7, nm_8, nm_12, nm_16, nm_24, nm_40, nm_180, nm_300, nm_10210, na_0, na_2, na_3, na_4, na_5, na_6, na_7, na_8, nm_p, nm_m, nI_clamp, e2', a0]); exact rfl) (by first | exact Or.inl rfl | exact Or.inr rfl | assumption) dX8_holds_223 ?_
                    refine x_iincN (y := 1) hκ dX8_holds_224 (by decide) rfl (by rw [hL]; decide) rfl (by (try simp (disch := omega) only [tS_1, tS_2, tA_1, tA_2, tF_1, tF_2, xl_0, xl_1, xl_2, Nat.reduceEqDiff, ↓reduceIte, nI_add, nI_1, nm_2, nm_3, nm_4, nm_6, nm_7, nm_8, nm_12, nm_16, nm_24, nm_40, nm_180, nm_300, nm_10210, na_0, na_2, na_3, na_4, na_5, na_6, na_7, na_8, nm_p, nm_m, nI_clamp, e2', a0]); exact rfl) ?_
                    refine x_iincN (y := 1) hκ dX8_holds_227 (by decide) rfl (by rw [hL]; decide) rfl (by (try simp (disch := omega) only [tS_1, tS_2, tA_1, tA_2, tF_1, tF_2, xl_0, xl_1, xl_2, Nat.reduceEqDiff, ↓reduceIte, nI_add, nI_1, nm_2, nm_3, nm_4, nm_6, nm_7, nm_8, nm_12, nm_16, nm_24, nm_40, nm_180, nm_300, nm_10210, na_0, na_2, na_3, na_4, na_5, na_6, na_7, na_8, nm_p, nm_m, nI_clamp, e2', a0]); exact rfl) ?_
                    refine x_goto (tgt := 15) hκ dX8_holds_230 (by decide) ?_
                    rw [tA_tF]
                    exact go _ _ (n + 1) _ hs1 (by omega) (hps (Tz0 (fun z => by rcases z with z | z; exact c179 z; exact c203 ((m3 cd).mp z)))) hwf he
                  · -- X8_holds 203F
                    have i203 := c203
                    simp (disch := omega) only [i32_lt, i32_le, i32_eq, Int32.reduceToInt, nI_toInt] at i203
                    refine x_goto (tgt := 218) hκ dX8_holds_206 (by decide) ?_
                    refine x_iconst (v := 1) hκ dX8_holds_218 (by decide) ?_
                    refine x_goto (tgt := 223) hκ dX8_holds_219 (by decide) ?_
                    refine t_zast (n := 96) hκ hθ (by decide) rfl rfl (by first | ((with_reducible refine vp_in_nI ?_ ?_) <;> omega) | exact i32_in (by omega) (by omega) | exact i32_in' (by simp only [Int32.toInt_add, Int32.toInt_mul, Int32.toInt_sub, Int32.reduceToInt, Int.bmod_add_bmod, Int.bmod_sub_bmod, Int.add_bmod_bmod, Int.sub_bmod_bmod, Int.bmod_mul_bmod, Int.mul_bmod_bmod]; exact i32_bm (by omega) (by omega)) (by omega) (by omega) | exact i32_in (by decide) (by decide)) (by (try simp (disch := omega) only [tS_1, tS_2, tA_1, tA_2, tF_1, tF_2, xl_0, xl_1, xl_2, Nat.reduceEqDiff, ↓reduceIte, nI_add, nI_1, nm_2, nm_3, nm_4, nm_6, nm_7, nm_8, nm_12, nm_16, nm_24, nm_40, nm_180, nm_300, nm_10210, na_0, na_2, na_3, na_4, na_5, na_6, na_7, na_8, nm_p, nm_m, nI_clamp, e2', a0]); exact rfl) (by first | exact Or.inl rfl | exact Or.inr rfl | assumption) dX8_holds_223 ?_
                    refine x_iincN (y := 1) hκ dX8_holds_224 (by decide) rfl (by rw [hL]; decide) rfl (by (try simp (disch := omega) only [tS_1, tS_2, tA_1, tA_2, tF_1, tF_2, xl_0, xl_1, xl_2, Nat.reduceEqDiff, ↓reduceIte, nI_add, nI_1, nm_2, nm_3, nm_4, nm_6, nm_7, nm_8, nm_12, nm_16, nm_24, nm_40, nm_180, nm_300, nm_10210, na_0, na_2, na_3, na_4, na_5, na_6, na_7, na_8, nm_p, nm_m, nI_clamp, e2', a0]); exact rfl) ?_
                    refine x_iincN (y := 1) hκ dX8_holds_227 (by decide) rfl (by rw [hL]; decide) rfl (by (try simp (disch := omega) only [tS_1, tS_2, tA_1, tA_2, tF_1, tF_2, xl_0, xl_1, xl_2, Nat.reduceEqDiff, ↓reduceIte, nI_add, nI_1, nm_2, nm_3, nm_4, nm_6, nm_7, nm_8, nm_12, nm_16, nm_24, nm_40, nm_180, nm_300, nm_10210, na_0, na_2, na_3, na_4, na_5, na_6, na_7, na_8, nm_p, nm_m, nI_clamp, e2', a0]); exact rfl) ?_
                    refine x_goto (tgt := 15) hκ dX8_holds_230 (by decide) ?_
                    rw [tA_tF]
                    exact go _ _ (n + 1) _ hs1 (by omega) (hps (Tz1 (Or.inr ((m3 cd).mpr c203)))) hwf he
            · -- X8_holds 93F
              have i93 := c93
              simp (disch := omega) only [i32_lt, i32_le, i32_eq, Int32.reduceToInt, nI_toInt] at i93
              have c2 : cd = 11000000 ∨ cd = 12000000 := by first | exact Or.inl c86 | exact Or.inr c93
              rw [if_neg c52, if_pos c2, Bool.and_eq_true, decide_eq_true_eq] at hwf
              obtain ⟨y, x, t, rfl⟩ := two_of (by omega : 2 ≤ s.length)
              rw [List.length_cons, List.length_cons] at hs
              rw [stp, if_neg c52] at he
              have e9 : n - 1 - 1 = t.length := by omega
              have e8 : n - 1 = t.length + 1 := by omega
              have hy := hg.top
              have hx := hg.tail.top
              rw [List.length_cons] at hy
              refine x_iincN (y := (-1)) hκ dX8_holds_96 (by decide) rfl (by rw [hL]; decide) rfl (by (try simp (disch := omega) only [tS_1, tS_2, tA_1, tA_2, tF_1, tF_2, xl_0, xl_1, xl_2, Nat.reduceEqDiff, ↓reduceIte, nI_add, nI_1, nm_2, nm_3, nm_4, nm_6, nm_7, nm_8, nm_12, nm_16, nm_24, nm_40, nm_180, nm_300, nm_10210, na_0, na_2, na_3, na_4, na_5, na_6, na_7, na_8, nm_p, nm_m, nI_clamp, e2', a0]); exact rfl) ?_
              refine x_aload_n hκ dX8_holds_99 rfl ?_
              refine t_getA hκ fl8_20 (by decide) (by decide) rfl dX8_holds_100 ?_
              refine x_iload_n hκ dX8_holds_103 rfl ?_
              refine x_iconst (v := 1) hκ dX8_holds_104 (by decide) ?_
              refine x_isubN hκ (by (try simp (disch := omega) only [tS_1, tS_2, tA_1, tA_2, tF_1, tF_2, xl_0, xl_1, xl_2, Nat.reduceEqDiff, ↓reduceIte, nI_add, nI_1, nm_2, nm_3, nm_4, nm_6, nm_7, nm_8, nm_12, nm_16, nm_24, nm_40, nm_180, nm_300, nm_10210, na_0, na_2, na_3, na_4, na_5, na_6, na_7, na_8, nm_p, nm_m, nI_clamp, e2', a0]); exact rfl) dX8_holds_105 ?_
              refine x_iload hκ dX8_holds_106 rfl ?_
              refine x_ldc hκ q1401 dX8_holds_108 ?_
              refine x_icmp_ne (tgt := 141) hκ dX8_holds_110 (by decide) (fun c110 => ?_) (fun c110 => ?_)
              · -- X8_holds 110T
                have i110 := c110
                simp (disch := omega) only [i32_lt, i32_le, i32_eq, Int32.reduceToInt, nI_toInt] at i110
                refine x_aload_n hκ dX8_holds_141 rfl ?_
                refine t_getA hκ fl8_20 (by decide) (by decide) rfl dX8_holds_142 ?_
                refine x_iload_n hκ dX8_holds_145 rfl ?_
                refine x_iconst (v := 1) hκ dX8_holds_146 (by decide) ?_
                refine x_isubN hκ (by (try simp (disch := omega) only [tS_1, tS_2, tA_1, tA_2, tF_1, tF_2, xl_0, xl_1, xl_2, Nat.reduceEqDiff, ↓reduceIte, nI_add, nI_1, nm_2, nm_3, nm_4, nm_6, nm_7, nm_8, nm_12, nm_16, nm_24, nm_40, nm_180, nm_300, nm_10210, na_0, na_2, na_3, na_4, na_5, na_6, na_7, na_8, nm_p, nm_m, nI_clamp, e2', a0]); exact rfl) dX8_holds_147 ?_
                refine t_zald (n := 96) hκ hθ (by decide) rfl rfl (by first | ((with_reducible refine vp_in_nI ?_ ?_) <;> omega) | exact i32_in (by omega) (by omega) | exact i32_in' (by simp only [Int32.toInt_add, Int32.toInt_mul, Int32.toInt_sub, Int32.reduceToInt, Int.bmod_add_bmod, Int.bmod_sub_bmod, Int.add_bmod_bmod, Int.sub_bmod_bmod, Int.bmod_mul_bmod, Int.mul_bmod_bmod]; exact i32_bm (by omega) (by omega)) (by omega) (by omega) | exact i32_in (by decide) (by decide)) (by (try simp (disch := omega) only [tS_1, tS_2, tA_1, tA_2, tF_1, tF_2, xl_0, xl_1, xl_2, Nat.reduceEqDiff, ↓reduceIte, nI_add, nI_1, nm_2, nm_3, nm_4, nm_6, nm_7, nm_8, nm_12, nm_16, nm_24, nm_40, nm_180, nm_300, nm_10210, na_0, na_2, na_3, na_4, na_5, na_6, na_7, na_8, nm_p, nm_m, nI_clamp, e2', a0]); exact rfl) dX8_holds_148 ?_
                refine x_if_ne (tgt := 161) hκ dX8_holds_149 (by decide) (fun c149 => ?_) (fun c149 => ?_)
                · -- X8_holds 149T
                  have i149 := c149
                  simp (disch := omega) only [i32_lt, i32_le, i32_eq, Int32.reduceToInt, nI_toInt] at i149
                  refine x_iconst (v := 1) hκ dX8_holds_161 (by decide) ?_
                  refine x_goto (tgt := 166) hκ dX8_holds_162 (by decide) ?_
                  refine t_zast (n := 96) hκ hθ (by decide) rfl rfl (by first | ((with_reducible refine vp_in_nI ?_ ?_) <;> omega) | exact i32_in (by omega) (by omega) | exact i32_in' (by simp only [Int32.toInt_add, Int32.toInt_mul, Int32.toInt_sub, Int32.reduceToInt, Int.bmod_add_bmod, Int.bmod_sub_bmod, Int.add_bmod_bmod, Int.sub_bmod_bmod, Int.bmod_mul_bmod, Int.mul_bmod_bmod]; exact i32_bm (by omega) (by omega)) (by omega) (by omega) | exact i32_in (by decide) (by decide)) (by (try simp (disch := omega) only [tS_1, tS_2, tA_1, tA_2, tF_1, tF_2, xl_0, xl_1, xl_2, Nat.reduceEqDiff, ↓reduceIte, nI_add, nI_1, nm_2, nm_3, nm_4, nm_6, nm_7, nm_8, nm_12, nm_16, nm_24, nm_40, nm_180, nm_300, nm_10210, na_0, na_2, na_3, na_4, na_5, na_6, na_7, na_8, nm_p, nm_m, nI_clamp, e2', a0]); exact rfl) (by first | exact Or.inl rfl | exact Or.inr rfl | assumption) dX8_holds_166 ?_
                  refine x_goto (tgt := 227) hκ dX8_holds_167 (by decide) ?_
                  refine x_iincN (y := 1) hκ dX8_holds_227 (by decide) rfl (by rw [hL]; decide) rfl (by (try simp (disch := omega) only [tS_1, tS_2, tA_1, tA_2, tF_1, tF_2, xl_0, xl_1, xl_2, Nat.reduceEqDiff, ↓reduceIte, nI_add, nI_1, nm_2, nm_3, nm_4, nm_6, nm_7, nm_8, nm_12, nm_16, nm_24, nm_40, nm_180, nm_300, nm_10210, na_0, na_2, na_3, na_4, na_5, na_6, na_7, na_8, nm_p, nm_m, nI_clamp, e2', a0]); exact rfl) ?_
                  refine x_goto (tgt := 15) hκ dX8_holds_230 (by decide) ?_
                  rw [tA_tF, e9]
                  rw [e9] at c149
                  rw [if_neg c110, if_pos c93] at he
                  exact go ((x ∨ y) :: t) _ (n - 1) _ (by rw [List.length_cons]; omega) (by omega) (hg.tail.tail.push (Tz1 (Or.inl (hx.t c149)))) hwf.2 he
                · -- X8_holds 149F
                  have i149 := c149
                  simp (disch := omega) only [i32_lt, i32_le, i32_eq, Int32.reduceToInt, nI_toInt] at i149
                  refine x_aload_n hκ dX8_holds_152 rfl ?_
                  refine t_getA hκ fl8_20 (by decide) (by decide) rfl dX8_holds_153 ?_
                  refine x_iload_n hκ dX8_holds_156 rfl ?_
                  refine t_zald (n := 96) hκ hθ (by decide) rfl rfl (by first | ((with_reducible refine vp_in_nI ?_ ?_) <;> omega) | exact i32_in (by omega) (by omega) | exact i32_in' (by simp only [Int32.toInt_add, Int32.toInt_mul, Int32.toInt_sub, Int32.reduceToInt, Int.bmod_add_bmod, Int.bmod_sub_bmod, Int.add_bmod_bmod, Int.sub_bmod_bmod, Int.bmod_mul_bmod, Int.mul_bmod_bmod]; exact i32_bm (by omega) (by omega)) (by omega) (by omega) | exact i32_in (by decide) (by decide)) (by (try simp (disch := omega) only [tS_1, tS_2, tA_1, tA_2, tF_1, tF_2, xl_0, xl_1, xl_2, Nat.reduceEqDiff, ↓reduceIte, nI_add, nI_1, nm_2, nm_3, nm_4, nm_6, nm_7, nm_8, nm_12, nm_16, nm_24, nm_40, nm_180, nm_300, nm_10210, na_0, na_2, na_3, na_4, na_5, na_6, na_7, na_8, nm_p, nm_m, nI_clamp, e2', a0]); exact rfl) dX8_holds_157 ?_
                  refine x_if_eq (tgt := 165) hκ dX8_holds_158 (by decide) (fun c158 => ?_) (fun c158 => ?_)
                  · -- X8_holds 158T
                    have i158 := c158
                    simp (disch := omega) only [i32_lt, i32_le, i32_eq, Int32.reduceToInt, nI_toInt] at i158
                    refine x_iconst (v := 0) hκ dX8_holds_165 (by decide) ?_
                    refine t_zast (n := 96) hκ hθ (by decide) rfl rfl (by first | ((with_reducible refine vp_in_nI ?_ ?_) <;> omega) | exact i32_in (by omega) (by omega) | exact i32_in' (by simp only [Int32.toInt_add, Int32.toInt_mul, Int32.toInt_sub, Int32.reduceToInt, Int.bmod_add_bmod, Int.bmod_sub_bmod, Int.add_bmod_bmod, Int.sub_bmod_bmod, Int.bmod_mul_bmod, Int.mul_bmod_bmod]; exact i32_bm (by omega) (by omega)) (by omega) (by omega) | exact i32_in (by decide) (by decide)) (by (try simp (disch := omega) only [tS_1, tS_2, tA_1, tA_2, tF_1, tF_2, xl_0, xl_1, xl_2, Nat.reduceEqDiff, ↓reduceIte, nI_add, nI_1, nm_2, nm_3, nm_4, nm_6, nm_7, nm_8, nm_12, nm_16, nm_24, nm_40, nm_180, nm_300, nm_10210, na_0, na_2, na_3, na_4, na_5, na_6, na_7, na_8, nm_p, nm_m, nI_clamp, e2', a0]); exact rfl) (by first | exact Or.inl rfl | exact Or.inr rfl | assumption) dX8_holds_166 ?_
                    refine x_goto (tgt := 227) hκ dX8_holds_167 (by decide) ?_
                    refine x_iincN (y := 1) hκ dX8_holds_227 (by decide) rfl (by rw [hL]; decide) rfl (by (try simp (disch := omega) only [tS_1, tS_2, tA_1, tA_2, tF_1, tF_2, xl_0, xl_1, xl_2, Nat.reduceEqDiff, ↓reduceIte, nI_add, nI_1, nm_2, nm_3, nm_4, nm_6, nm_7, nm_8, nm_12, nm_16, nm_24, nm_40, nm_180, nm_300, nm_10210, na_0, na_2, na_3, na_4, na_5, na_6, na_7, na_8, nm_p, nm_m, nI_clamp, e2', a0]); exact rfl) ?_
                    refine x_goto (tgt := 15) hκ dX8_holds_230 (by decide) ?_
                    rw [tA_tF, e9]
                    rw [e9] at c149
                    rw [e8] at c158
                    rw [if_neg c110, if_pos c93] at he
                    exact go ((x ∨ y) :: t) _ (n - 1) _ (by rw [List.length_cons]; omega) (by omega) (hg.tail.tail.push (Tz0 (fun z => by rcases z with z | z; exact hx.f c149 z; exact hy.f c158 z))) hwf.2 he
                  · -- X8_holds 158F
                    have i158 := c158
                    simp (disch := omega) only [i32_lt, i32_le, i32_eq, Int32.reduceToInt, nI_toInt] at i158
                    refine x_iconst (v := 1) hκ dX8_holds_161 (by decide) ?_
                    refine x_goto (tgt := 166) hκ dX8_holds_162 (by decide) ?_
                    refine t_zast (n := 96) hκ hθ (by decide) rfl rfl (by first | ((with_reducible refine vp_in_nI ?_ ?_) <;> omega) | exact i32_in (by omega) (by omega) | exact i32_in' (by simp only [Int32.toInt_add, Int32.toInt_mul, Int32.toInt_sub, Int32.reduceToInt, Int.bmod_add_bmod, Int.bmod_sub_bmod, Int.add_bmod_bmod, Int.sub_bmod_bmod, Int.bmod_mul_bmod, Int.mul_bmod_bmod]; exact i32_bm (by omega) (by omega)) (by omega) (by omega) | exact i32_in (by decide) (by decide)) (by (try simp (disch := omega) only [tS_1, tS_2, tA_1, tA_2, tF_1, tF_2, xl_0, xl_1, xl_2, Nat.reduceEqDiff, ↓reduceIte, nI_add, nI_1, nm_2, nm_3, nm_4, nm_6, nm_7, nm_8, nm_12, nm_16, nm_24, nm_40, nm_180, nm_300, nm_10210, na_0, na_2, na_3, na_4, na_5, na_6, na_7, na_8, nm_p, nm_m, nI_clamp, e2', a0]); exact rfl) (by first | exact Or.inl rfl | exact Or.inr rfl | assumption) dX8_holds_166 ?_
                    refine x_goto (tgt := 227) hκ dX8_holds_167 (by decide) ?_
                    refine x_iincN (y := 1) hκ dX8_holds_227 (by decide) rfl (by rw [hL]; decide) rfl (by (try simp (disch := omega) only [tS_1, tS_2, tA_1, tA_2, tF_1, tF_2, xl_0, xl_1, xl_2, Nat.reduceEqDiff, ↓reduceIte, nI_add, nI_1, nm_2, nm_3, nm_4, nm_6, nm_7, nm_8, nm_12, nm_16, nm_24, nm_40, nm_180, nm_300, nm_10210, na_0, na_2, na_3, na_4, na_5, na_6, na_7, na_8, nm_p, nm_m, nI_clamp, e2', a0]); exact rfl) ?_
                    refine x_goto (tgt := 15) hκ dX8_holds_230 (by decide) ?_
                    rw [tA_tF, e9]
                    rw [e9] at c149
                    rw [e8] at c158
                    rw [if_neg c110, if_pos c93] at he
                    exact go ((x ∨ y) :: t) _ (n - 1) _ (by rw [List.length_cons]; omega) (by omega) (hg.tail.tail.push (Tz1 (Or.inr (hy.t c158)))) hwf.2 he
              · -- X8_holds 110F
                have i110 := c110
                simp (disch := omega) only [i32_lt, i32_le, i32_eq, Int32.reduceToInt, nI_toInt] at i110
                exact absurd c110 c86
        · -- X8_holds 52F
          have i52 := c52
          simp (disch := omega) only [i32_lt, i32_le, i32_eq, Int32.reduceToInt, nI_toInt] at i52
          rw [if_pos c52, Bool.and_eq_true, decide_eq_true_eq] at hwf
          obtain ⟨x, t, rfl⟩ := one_of (by omega : 1 ≤ s.length)
          rw [List.length_cons] at hs
          rw [stp, if_pos c52] at he
          have e9 : n - 1 = t.length := by omega
          refine x_aload_n hκ dX8_holds_55 rfl ?_
          refine t_getA hκ fl8_20 (by decide) (by decide) rfl dX8_holds_56 ?_
          refine x_iload_n hκ dX8_holds_59 rfl ?_
          refine x_iconst (v := 1) hκ dX8_holds_60 (by decide) ?_
          refine x_isubN hκ (by (try simp (disch := omega) only [tS_1, tS_2, tA_1, tA_2, tF_1, tF_2, xl_0, xl_1, xl_2, Nat.reduceEqDiff, ↓reduceIte, nI_add, nI_1, nm_2, nm_3, nm_4, nm_6, nm_7, nm_8, nm_12, nm_16, nm_24, nm_40, nm_180, nm_300, nm_10210, na_0, na_2, na_3, na_4, na_5, na_6, na_7, na_8, nm_p, nm_m, nI_clamp, e2', a0]); exact rfl) dX8_holds_61 ?_
          refine x_aload_n hκ dX8_holds_62 rfl ?_
          refine t_getA hκ fl8_20 (by decide) (by decide) rfl dX8_holds_63 ?_
          refine x_iload_n hκ dX8_holds_66 rfl ?_
          refine x_iconst (v := 1) hκ dX8_holds_67 (by decide) ?_
          refine x_isubN hκ (by (try simp (disch := omega) only [tS_1, tS_2, tA_1, tA_2, tF_1, tF_2, xl_0, xl_1, xl_2, Nat.reduceEqDiff, ↓reduceIte, nI_add, nI_1, nm_2, nm_3, nm_4, nm_6, nm_7, nm_8, nm_12, nm_16, nm_24, nm_40, nm_180, nm_300, nm_10210, na_0, na_2, na_3, na_4, na_5, na_6, na_7, na_8, nm_p, nm_m, nI_clamp, e2', a0]); exact rfl) dX8_holds_68 ?_
          refine t_zald (n := 96) hκ hθ (by decide) rfl rfl (by first | ((with_reducible refine vp_in_nI ?_ ?_) <;> omega) | exact i32_in (by omega) (by omega) | exact i32_in' (by simp only [Int32.toInt_add, Int32.toInt_mul, Int32.toInt_sub, Int32.reduceToInt, Int.bmod_add_bmod, Int.bmod_sub_bmod, Int.add_bmod_bmod, Int.sub_bmod_bmod, Int.bmod_mul_bmod, Int.mul_bmod_bmod]; exact i32_bm (by omega) (by omega)) (by omega) (by omega) | exact i32_in (by decide) (by decide)) (by (try simp (disch := omega) only [tS_1, tS_2, tA_1, tA_2, tF_1, tF_2, xl_0, xl_1, xl_2, Nat.reduceEqDiff, ↓reduceIte, nI_add, nI_1, nm_2, nm_3, nm_4, nm_6, nm_7, nm_8, nm_12, nm_16, nm_24, nm_40, nm_180, nm_300, nm_10210, na_0, na_2, na_3, na_4, na_5, na_6, na_7, na_8, nm_p, nm_m, nI_clamp, e2', a0]); exact rfl) dX8_holds_69 ?_
          refine x_if_ne (tgt := 77) hκ dX8_holds_70 (by decide) (fun c70 => ?_) (fun c70 => ?_)
          · -- X8_holds 70T
            have i70 := c70
            simp (disch := omega) only [i32_lt, i32_le, i32_eq, Int32.reduceToInt, nI_toInt] at i70
            refine x_iconst (v := 0) hκ dX8_holds_77 (by decide) ?_
            refine t_zast (n := 96) hκ hθ (by decide) rfl rfl (by first | ((with_reducible refine vp_in_nI ?_ ?_) <;> omega) | exact i32_in (by omega) (by omega) | exact i32_in' (by simp only [Int32.toInt_add, Int32.toInt_mul, Int32.toInt_sub, Int32.reduceToInt, Int.bmod_add_bmod, Int.bmod_sub_bmod, Int.add_bmod_bmod, Int.sub_bmod_bmod, Int.bmod_mul_bmod, Int.mul_bmod_bmod]; exact i32_bm (by omega) (by omega)) (by omega) (by omega) | exact i32_in (by decide) (by decide)) (by (try simp (disch := omega) only [tS_1, tS_2, tA_1, tA_2, tF_1, tF_2, xl_0, xl_1, xl_2, Nat.reduceEqDiff, ↓reduceIte, nI_add, nI_1, nm_2, nm_3, nm_4, nm_6, nm_7, nm_8, nm_12, nm_16, nm_24, nm_40, nm_180, nm_300, nm_10210, na_0, na_2, na_3, na_4, na_5, na_6, na_7, na_8, nm_p, nm_m, nI_clamp, e2', a0]); exact rfl) (by first | exact Or.inl rfl | exact Or.inr rfl | assumption) dX8_holds_78 ?_
            refine x_goto (tgt := 227) hκ dX8_holds_79 (by decide) ?_
            refine x_iincN (y := 1) hκ dX8_holds_227 (by decide) rfl (by rw [hL]; decide) rfl (by (try simp (disch := omega) only [tS_1, tS_2, tA_1, tA_2, tF_1, tF_2, xl_0, xl_1, xl_2, Nat.reduceEqDiff, ↓reduceIte, nI_add, nI_1, nm_2, nm_3, nm_4, nm_6, nm_7, nm_8, nm_12, nm_16, nm_24, nm_40, nm_180, nm_300, nm_10210, na_0, na_2, na_3, na_4, na_5, na_6, na_7, na_8, nm_p, nm_m, nI_clamp, e2', a0]); exact rfl) ?_
            refine x_goto (tgt := 15) hκ dX8_holds_230 (by decide) ?_
            rw [tA_tF, e9]
            rw [e9] at c70
            exact go ((¬ x) :: t) _ n _ (by rw [List.length_cons]; omega) (by omega) (hg.tail.push (Tz0 (fun z => z (hg.top.t c70)))) hwf.2 he
          · -- X8_holds 70F
            have i70 := c70
            simp (disch := omega) only [i32_lt, i32_le, i32_eq, Int32.reduceToInt, nI_toInt] at i70
            refine x_iconst (v := 1) hκ dX8_holds_73 (by decide) ?_
            refine x_goto (tgt := 78) hκ dX8_holds_74 (by decide) ?_
            refine t_zast (n := 96) hκ hθ (by decide) rfl rfl (by first | ((with_reducible refine vp_in_nI ?_ ?_) <;> omega) | exact i32_in (by omega) (by omega) | exact i32_in' (by simp only [Int32.toInt_add, Int32.toInt_mul, Int32.toInt_sub, Int32.reduceToInt, Int.bmod_add_bmod, Int.bmod_sub_bmod, Int.add_bmod_bmod, Int.sub_bmod_bmod, Int.bmod_mul_bmod, Int.mul_bmod_bmod]; exact i32_bm (by omega) (by omega)) (by omega) (by omega) | exact i32_in (by decide) (by decide)) (by (try simp (disch := omega) only [tS_1, tS_2, tA_1, tA_2, tF_1, tF_2, xl_0, xl_1, xl_2, Nat.reduceEqDiff, ↓reduceIte, nI_add, nI_1, nm_2, nm_3, nm_4, nm_6, nm_7, nm_8, nm_12, nm_16, nm_24, nm_40, nm_180, nm_300, nm_10210, na_0, na_2, na_3, na_4, na_5, na_6, na_7, na_8, nm_p, nm_m, nI_clamp, e2', a0]); exact rfl) (by first | exact Or.inl rfl | exact Or.inr rfl | assumption) dX8_holds_78 ?_
            refine x_goto (tgt := 227) hκ dX8_holds_79 (by decide) ?_
            refine x_iincN (y := 1) hκ dX8_holds_227 (by decide) rfl (by rw [hL]; decide) rfl (by (try simp (disch := omega) only [tS_1, tS_2, tA_1, tA_2, tF_1, tF_2, xl_0, xl_1, xl_2, Nat.reduceEqDiff, ↓reduceIte, nI_add, nI_1, nm_2, nm_3, nm_4, nm_6, nm_7, nm_8, nm_12, nm_16, nm_24, nm_40, nm_180, nm_300, nm_10210, na_0, na_2, na_3, na_4, na_5, na_6, na_7, na_8, nm_p, nm_m, nI_clamp, e2', a0]); exact rfl) ?_
            refine x_goto (tgt := 15) hκ dX8_holds_230 (by decide) ?_
            rw [tA_tF, e9]
            rw [e9] at c70
            exact go ((¬ x) :: t) _ n _ (by rw [List.length_cons]; omega) (by omega) (hg.tail.push (Tz1 (hg.top.f c70))) hwf.2 he
  refine x_iconst (v := 0) hκ dX8_holds_0 (by decide) ?_
  refine x_istore_n hκ dX8_holds_1 (by rw [hL]; decide) rfl ?_
  refine x_aload_n hκ dX8_holds_2 rfl ?_
  refine t_getA hκ fl8_4 (by decide) (by decide) rfl dX8_holds_3 ?_
  refine x_bipush (v := 7) hκ dX8_holds_6 (by decide) ?_
  refine x_iload_n hκ dX8_holds_8 rfl ?_
  refine x_imulN hκ (by (try simp (disch := omega) only [tS_1, tS_2, tA_1, tA_2, tF_1, tF_2, xl_0, xl_1, xl_2, Nat.reduceEqDiff, ↓reduceIte, nI_add, nI_1, nm_2, nm_3, nm_4, nm_6, nm_7, nm_8, nm_12, nm_16, nm_24, nm_40, nm_180, nm_300, nm_10210, na_0, na_2, na_3, na_4, na_5, na_6, na_7, na_8, nm_p, nm_m, nI_clamp, e1]); exact rfl) dX8_holds_9 ?_
  refine x_iload_n hκ dX8_holds_10 rfl ?_
  refine x_iaddN hκ (by (try simp (disch := omega) only [tS_1, tS_2, tA_1, tA_2, tF_1, tF_2, xl_0, xl_1, xl_2, Nat.reduceEqDiff, ↓reduceIte, nI_add, nI_1, nm_2, nm_3, nm_4, nm_6, nm_7, nm_8, nm_12, nm_16, nm_24, nm_40, nm_180, nm_300, nm_10210, na_0, na_2, na_3, na_4, na_5, na_6, na_7, na_8, nm_p, nm_m, nI_clamp, e1]); exact rfl) dX8_holds_11 ?_
  refine t_iald (n := 21) hκ hθ (by decide) rfl rfl (by first | ((with_reducible refine vp_in_nI ?_ ?_) <;> omega) | exact i32_in (by omega) (by omega) | exact i32_in' (by simp only [Int32.toInt_add, Int32.toInt_mul, Int32.toInt_sub, Int32.reduceToInt, Int.bmod_add_bmod, Int.bmod_sub_bmod, Int.add_bmod_bmod, Int.sub_bmod_bmod, Int.bmod_mul_bmod, Int.mul_bmod_bmod]; exact i32_bm (by omega) (by omega)) (by omega) (by omega) | exact i32_in (by decide) (by decide)) (by (try simp (disch := omega) only [tS_1, tS_2, tA_1, tA_2, tF_1, tF_2, xl_0, xl_1, xl_2, Nat.reduceEqDiff, ↓reduceIte, nI_add, nI_1, nm_2, nm_3, nm_4, nm_6, nm_7, nm_8, nm_12, nm_16, nm_24, nm_40, nm_180, nm_300, nm_10210, na_0, na_2, na_3, na_4, na_5, na_6, na_7, na_8, nm_p, nm_m, nI_clamp, e1]); exact rfl) dX8_holds_12 ?_
  refine x_istore hκ dX8_holds_13 (by rw [hL]; decide) rfl ?_
  have := loop (q.1.length + 1) 0 0 [] (σ.2 20) none (by omega) (by omega) rfl (Nat.le_refl _) (fun j p z => by cases z) (by rw [List.drop_zero]; exact hw.1) (by rw [List.drop_zero])
  rw [tF_self] at this
  exact this
