
/-! the reference: joins that wait -/
/-- waits as a stack, the top first -/
def WSt (g : Nat → Int32) (W : List Nat) : Prop := ∀ (j x : Nat), W[j]? = some x → g (W.length - 1 - j) = nI x
theorem WSt.push {g : Nat → Int32} {W : List Nat} (h : WSt g W) (x : Nat) : WSt (upd g W.length (nI x)) (x :: W) := by
  intro j y hy
  cases j with
  | zero =>
    rw [List.getElem?_cons_zero] at hy
    cases hy
    unfold upd
    rw [if_pos (by simp)]
  | succ j =>
    rw [List.getElem?_cons_succ] at hy
    have hl := (List.getElem?_eq_some_iff.mp hy).1
    have := h j y hy
    unfold upd
    rw [List.length_cons, if_neg (by omega), show W.length + 1 - 1 - (j + 1) = W.length - 1 - j by omega]
    exact this
theorem WSt.top {g : Nat → Int32} {x : Nat} {W : List Nat} (h : WSt g (x :: W)) : g W.length = nI x := by
  have := h 0 x rfl
  rwa [List.length_cons, show W.length + 1 - 1 - 0 = W.length by omega] at this
theorem WSt.tail {g : Nat → Int32} {x : Nat} {W : List Nat} (h : WSt g (x :: W)) : WSt g W := by
  intro j y hy
  have hl := (List.getElem?_eq_some_iff.mp hy).1
  have := h (j + 1) y (by rw [List.getElem?_cons_succ]; exact hy)
  rwa [List.length_cons, show W.length + 1 - 1 - (j + 1) = W.length - 1 - j by omega] at this
/-- what is open: nots and brackets -/
def dep : List Nat → Nat
  | [] => 0
  | x :: W => (if x = 0 ∨ x = 3 then 1 else 0) + dep W
def opC (x : Nat) : Int32 := if x = 3 then 10000000 else if x = 2 then 11000000 else 12000000
/-- what waits on top is put, as far as it binds as much as m -/
def stl (m : Nat) : List Nat → List Int32 → List Nat × List Int32
  | [], o => ([], o)
  | x :: W, o => if m ≤ x then stl m W (o ++ [opC x]) else (x :: W, o)
abbrev psS : List Nat := [9, 11, 12, 13, 14, 15]
/-- the reader's state: at a, waits W, codes o -/
def PW (σ0 : TS) (a : Nat) (W : List Nat) (o : List Int32) (σ : TS) : Prop := Fr psS σ0 σ ∧ σ.1 9 = nI a ∧ σ.1 12 = nI W.length ∧ σ.1 13 = nI (dep W) ∧ WSt (σ.2 11) W ∧ σ.1 15 = nI o.length ∧ AL (σ.2 14) 0 o ∧ (∀ x ∈ W, x ≤ 3) ∧ W.length ≤ 94 ∧ o.length + W.length ≤ 170
theorem PW.pop {σ0 σ : TS} {a x : Nat} {W : List Nat} {o : List Int32} (h : PW σ0 a (x :: W) o σ) : PW σ0 a W (o ++ [opC x]) (putR (tS (tS σ 12 (nI W.length)) 13 (nI (dep W))) o.length (opC x)) := by
  obtain ⟨h1, h2, h3, h4, h5, h6, h7, h8, h9, h10⟩ := h
  rw [List.length_cons] at h9 h10
  refine ⟨(((h1.S rfl _).S rfl _).A rfl _ _).S rfl _, h2, rfl, rfl, h5.tail, ?_, ?_, fun y hy => h8 y (List.mem_cons_of_mem _ hy), by omega, ?_⟩
  · rw [List.length_append, List.length_singleton]; rfl
  · have := h7.snoc (opC x)
    rw [Nat.zero_add] at this
    exact this
  · rw [List.length_append, List.length_singleton]; omega
theorem mX8_settle {E : gE} {θ : TA} (hθ : tOk θ) {σ : TS} {σ0 : TS} {m : Nat} (hm : 1 ≤ m ∧ m ≤ 3) {a : Nat} {W₀ : List Nat} {o₀ : List Int32} (hP : PW σ0 a W₀ o₀ σ) : TMv E θ σ yX8_settle cX8_settle 3 1 [.int (nI m)] (fun σ' => PW σ0 a (stl m W₀ o₀).1 (stl m W₀ o₀).2 σ') := by
  refine TMv.of (by decide) (Nat.le_of_ble_eq_true rfl) ?_
  rintro κ rfl hL hκ hr
  have loop : ∀ (W : List Nat) (o : List Int32) (σc : TS) (o2 : Option Value), PW σ0 a W o σc → (∀ σ', PW σ0 a (stl m W o).1 (stl m W o).2 σ' → PW σ0 a (stl m W₀ o₀).1 (stl m W₀ o₀).2 σ') → X κ (tG (kE κ) θ σc) 0 0 0 [some (.ref θ.1), some (.int (nI m)), o2] [] := by
    intro W
    induction W with
    | nil =>
      intro o σc o2 hP hy
      have hP' := hP
      obtain ⟨h1, h2, h3, h4, h5, h6, h7, h8, h9, h10⟩ := hP'
      rw [List.length_nil] at h3
      refine x_aload_n hκ dX8_settle_0 rfl ?_
      refine t_get hκ fl8_12 (by decide) (by decide) rfl (by (try simp (disch := omega) only [tS_1, tS_2, tA_1, tA_2, tF_1, tF_2, xl_0, xl_1, xl_2, Nat.reduceEqDiff, ↓reduceIte, nI_add, nI_1, nm_2, nm_3, nm_4, nm_6, nm_7, nm_8, nm_12, nm_16, nm_24, nm_40, nm_180, nm_300, nm_10210, na_0, na_2, na_3, na_4, na_5, na_6, na_7, na_8, nm_p, nm_m, nI_clamp, h3]); exact rfl) dX8_settle_1 ?_
      refine x_if_le (tgt := 90) hκ dX8_settle_4 (by decide) (fun c4 => ?_) (fun c4 => ?_)
      · -- X8_settle 4T
        have i4 := c4
        simp (disch := omega) only [i32_lt, i32_le, i32_eq, Int32.reduceToInt, nI_toInt] at i4
        refine t_retv hκ hr dX8_settle_90 ?_
        exact hy _ hP
      · -- X8_settle 4F
        have i4 := c4
        simp (disch := omega) only [i32_lt, i32_le, i32_eq, Int32.reduceToInt, nI_toInt] at i4
        exact absurd (by decide) c4
    | cons x W ih =>
      intro o σc o2 hP hy
      have hP' := hP
      obtain ⟨h1, h2, h3, h4, h5, h6, h7, h8, h9, h10⟩ := hP'
      rw [List.length_cons] at h3 h9 h10
      have ht := h5.top
      have hx := h8 x List.mem_cons_self
      have hpop := hP.pop
      have step : m ≤ x → ∀ σ', PW σ0 a (stl m W (o ++ [opC x])).1 (stl m W (o ++ [opC x])).2 σ' → PW σ0 a (stl m W₀ o₀).1 (stl m W₀ o₀).2 σ' := fun hmx σ' hs => hy σ' (by rw [stl, if_pos hmx]; exact hs)
      have stop : ¬ m ≤ x → PW σ0 a (stl m W₀ o₀).1 (stl m W₀ o₀).2 σc := fun hmx => hy σc (by rw [stl, if_neg hmx]; exact hP)
      rw [dep] at h4
      have hxs : x = 3 → nI ((if x = 0 ∨ x = 3 then 1 else 0) + dep W) - 1 = nI (dep W) := fun z => by rw [if_pos (Or.inr z), nm_p (by omega)]; congr 1; omega
      have hxo : ¬ x = 3 → m ≤ x → nI ((if x = 0 ∨ x = 3 then 1 else 0) + dep W) - 0 = nI (dep W) := fun z z2 => by rw [if_neg (by omega), Nat.zero_add, Int32.sub_zero]
      refine x_aload_n hκ dX8_settle_0 rfl ?_
      refine t_get hκ fl8_12 (by decide) (by decide) rfl (by (try simp (disch := omega) only [tS_1, tS_2, tA_1, tA_2, tF_1, tF_2, xl_0, xl_1, xl_2, Nat.reduceEqDiff, ↓reduceIte, nI_add, nI_1, nm_2, nm_3, nm_4, nm_6, nm_7, nm_8, nm_12, nm_16, nm_24, nm_40, nm_180, nm_300, nm_10210, na_0, na_2, na_3, na_4, na_5, na_6, na_7, na_8, nm_p, nm_m, nI_clamp, h3, ht, h4, Nat.add_sub_cancel]); exact rfl) dX8_settle_1 ?_
      refine x_if_le (tgt := 90) hκ dX8_settle_4 (by decide) (fun c4 => ?_) (fun c4 => ?_)
      · -- X8_settle 4T
        have i4 := c4
        simp (disch := omega) only [i32_lt, i32_le, i32_eq, Int32.reduceToInt, nI_toInt] at i4
        refine t_retv hκ hr dX8_settle_90 ?_
        omega
      · -- X8_settle 4F
        have i4 := c4
        simp (disch := omega) only [i32_lt, i32_le, i32_eq, Int32.reduceToInt, nI_toInt] at i4
        refine x_aload_n hκ dX8_settle_7 rfl ?_
        refine t_getA hκ fl8_11 (by decide) (by decide) rfl dX8_settle_8 ?_
        refine x_aload_n hκ dX8_settle_11 rfl ?_
        refine t_get hκ fl8_12 (by decide) (by decide) rfl (by (try simp (disch := omega) only [tS_1, tS_2, tA_1, tA_2, tF_1, tF_2, xl_0, xl_1, xl_2, Nat.reduceEqDiff, ↓reduceIte, nI_add, nI_1, nm_2, nm_3, nm_4, nm_6, nm_7, nm_8, nm_12, nm_16, nm_24, nm_40, nm_180, nm_300, nm_10210, na_0, na_2, na_3, na_4, na_5, na_6, na_7, na_8, nm_p, nm_m, nI_clamp, h3, ht, h4, Nat.add_sub_cancel]); exact rfl) dX8_settle_12 ?_
        refine x_iconst (v := 1) hκ dX8_settle_15 (by decide) ?_
        refine x_isubN hκ (by (try simp (disch := omega) only [tS_1, tS_2, tA_1, tA_2, tF_1, tF_2, xl_0, xl_1, xl_2, Nat.reduceEqDiff, ↓reduceIte, nI_add, nI_1, nm_2, nm_3, nm_4, nm_6, nm_7, nm_8, nm_12, nm_16, nm_24, nm_40, nm_180, nm_300, nm_10210, na_0, na_2, na_3, na_4, na_5, na_6, na_7, na_8, nm_p, nm_m, nI_clamp, h3, ht, h4, Nat.add_sub_cancel]); exact rfl) dX8_settle_16 ?_
        refine t_iald (n := 96) hκ hθ (by decide) rfl rfl (by first | ((with_reducible refine vp_in_nI ?_ ?_) <;> omega) | exact i32_in (by omega) (by omega) | exact i32_in' (by simp only [Int32.toInt_add, Int32.toInt_mul, Int32.toInt_sub, Int32.reduceToInt, Int.bmod_add_bmod, Int.bmod_sub_bmod, Int.add_bmod_bmod, Int.sub_bmod_bmod, Int.bmod_mul_bmod, Int.mul_bmod_bmod]; exact i32_bm (by omega) (by omega)) (by omega) (by omega) | exact i32_in (by decide) (by decide)) (by (try simp (disch := omega) only [tS_1, tS_2, tA_1, tA_2, tF_1, tF_2, xl_0, xl_1, xl_2, Nat.reduceEqDiff, ↓reduceIte, nI_add, nI_1, nm_2, nm_3, nm_4, nm_6, nm_7, nm_8, nm_12, nm_16, nm_24, nm_40, nm_180, nm_300, nm_10210, na_0, na_2, na_3, na_4, na_5, na_6, na_7, na_8, nm_p, nm_m, nI_clamp, h3, ht, h4, Nat.add_sub_cancel]); exact rfl) dX8_settle_17 ?_
        refine x_iload_n hκ dX8_settle_18 rfl ?_
        refine x_icmp_lt (tgt := 90) hκ dX8_settle_19 (by decide) (fun c19 => ?_) (fun c19 => ?_)
        · -- X8_settle 19T
          have i19 := c19
          simp (disch := omega) only [i32_lt, i32_le, i32_eq, Int32.reduceToInt, nI_toInt] at i19
          refine t_retv hκ hr dX8_settle_90 ?_
          exact stop (by omega)
        · -- X8_settle 19F
          have i19 := c19
          simp (disch := omega) only [i32_lt, i32_le, i32_eq, Int32.reduceToInt, nI_toInt] at i19
          have hmx : m ≤ x := by omega
          refine x_aload_n hκ dX8_settle_22 rfl ?_
          refine x_dup hκ dX8_settle_23 rfl ?_
          refine t_get hκ fl8_12 (by decide) (by decide) rfl (by (try simp (disch := omega) only [tS_1, tS_2, tA_1, tA_2, tF_1, tF_2, xl_0, xl_1, xl_2, Nat.reduceEqDiff, ↓reduceIte, nI_add, nI_1, nm_2, nm_3, nm_4, nm_6, nm_7, nm_8, nm_12, nm_16, nm_24, nm_40, nm_180, nm_300, nm_10210, na_0, na_2, na_3, na_4, na_5, na_6, na_7, na_8, nm_p, nm_m, nI_clamp, h3, ht, h4, Nat.add_sub_cancel]); exact rfl) dX8_settle_24 ?_
          refine x_iconst (v := 1) hκ dX8_settle_27 (by decide) ?_
          refine x_isubN hκ (by (try simp (disch := omega) only [tS_1, tS_2, tA_1, tA_2, tF_1, tF_2, xl_0, xl_1, xl_2, Nat.reduceEqDiff, ↓reduceIte, nI_add, nI_1, nm_2, nm_3, nm_4, nm_6, nm_7, nm_8, nm_12, nm_16, nm_24, nm_40, nm_180, nm_300, nm_10210, na_0, na_2, na_3, na_4, na_5, na_6, na_7, na_8, nm_p, nm_m, nI_clamp, h3, ht, h4, Nat.add_sub_cancel]); exact rfl) dX8_settle_28 ?_
          refine t_put hκ fl8_12 (by decide) (by decide) rfl rfl rfl dX8_settle_29 ?_
          refine x_aload_n hκ dX8_settle_32 rfl ?_
          refine t_getA hκ fl8_11 (by decide) (by decide) rfl dX8_settle_33 ?_
          refine x_aload_n hκ dX8_settle_36 rfl ?_
          refine t_get hκ fl8_12 (by decide) (by decide) rfl (by (try simp (disch := omega) only [tS_1, tS_2, tA_1, tA_2, tF_1, tF_2, xl_0, xl_1, xl_2, Nat.reduceEqDiff, ↓reduceIte, nI_add, nI_1, nm_2, nm_3, nm_4, nm_6, nm_7, nm_8, nm_12, nm_16, nm_24, nm_40, nm_180, nm_300, nm_10210, na_0, na_2, na_3, na_4, na_5, na_6, na_7, na_8, nm_p, nm_m, nI_clamp, h3, ht, h4, Nat.add_sub_cancel]); exact rfl) dX8_settle_37 ?_
          refine t_iald (n := 96) hκ hθ (by decide) rfl rfl (by first | ((with_reducible refine vp_in_nI ?_ ?_) <;> omega) | exact i32_in (by omega) (by omega) | exact i32_in' (by simp only [Int32.toInt_add, Int32.toInt_mul, Int32.toInt_sub, Int32.reduceToInt, Int.bmod_add_bmod, Int.bmod_sub_bmod, Int.add_bmod_bmod, Int.sub_bmod_bmod, Int.bmod_mul_bmod, Int.mul_bmod_bmod]; exact i32_bm (by omega) (by omega)) (by omega) (by omega) | exact i32_in (by decide) (by decide)) (by (try simp (disch := omega) only [tS_1, tS_2, tA_1, tA_2, tF_1, tF_2, xl_0, xl_1, xl_2, Nat.reduceEqDiff, ↓reduceIte, nI_add, nI_1, nm_2, nm_3, nm_4, nm_6, nm_7, nm_8, nm_12, nm_16, nm_24, nm_40, nm_180, nm_300, nm_10210, na_0, na_2, na_3, na_4, na_5, na_6, na_7, na_8, nm_p, nm_m, nI_clamp, h3, ht, h4, Nat.add_sub_cancel]); exact rfl) dX8_settle_40 ?_
          refine x_istore_n hκ dX8_settle_41 (by rw [hL]; decide) rfl ?_
          refine x_aload_n hκ dX8_settle_42 rfl ?_
          refine x_dup hκ dX8_settle_43 rfl ?_
          refine t_get hκ fl8_13 (by decide) (by decide) rfl (by (try simp (disch := omega) only [tS_1, tS_2, tA_1, tA_2, tF_1, tF_2, xl_0, xl_1, xl_2, Nat.reduceEqDiff, ↓reduceIte, nI_add, nI_1, nm_2, nm_3, nm_4, nm_6, nm_7, nm_8, nm_12, nm_16, nm_24, nm_40, nm_180, nm_300, nm_10210, na_0, na_2, na_3, na_4, na_5, na_6, na_7, na_8, nm_p, nm_m, nI_clamp, h3, ht, h4, Nat.add_sub_cancel]); exact rfl) dX8_settle_44 ?_
          refine x_iload_n hκ dX8_settle_47 rfl ?_
          refine x_iconst (v := 3) hκ dX8_settle_48 (by decide) ?_
          refine x_icmp_ne (tgt := 56) hκ dX8_settle_49 (by decide) (fun c49 => ?_) (fun c49 => ?_)
          · -- X8_settle 49T
            have i49 := c49
            simp (disch := omega) only [i32_lt, i32_le, i32_eq, Int32.reduceToInt, nI_toInt] at i49
            refine x_iconst (v := 0) hκ dX8_settle_56 (by decide) ?_
            refine x_isubN hκ (by (try simp (disch := omega) only [tS_1, tS_2, tA_1, tA_2, tF_1, tF_2, xl_0, xl_1, xl_2, Nat.reduceEqDiff, ↓reduceIte, nI_add, nI_1, nm_2, nm_3, nm_4, nm_6, nm_7, nm_8, nm_12, nm_16, nm_24, nm_40, nm_180, nm_300, nm_10210, na_0, na_2, na_3, na_4, na_5, na_6, na_7, na_8, nm_p, nm_m, nI_clamp, h3, ht, h4, Nat.add_sub_cancel]); exact rfl) dX8_settle_57 ?_
            rw [hxo (by omega) hmx]
            refine t_put hκ fl8_13 (by decide) (by decide) rfl rfl rfl dX8_settle_58 ?_
            refine x_aload_n hκ dX8_settle_61 rfl ?_
            refine x_iload_n hκ dX8_settle_62 rfl ?_
            refine x_iconst (v := 3) hκ dX8_settle_63 (by decide) ?_
            refine x_icmp_ne (tgt := 72) hκ dX8_settle_64 (by decide) (fun c64 => ?_) (fun c64 => ?_)
            · -- X8_settle 64T
              have i64 := c64
              simp (disch := omega) only [i32_lt, i32_le, i32_eq, Int32.reduceToInt, nI_toInt] at i64
              refine x_iload_n hκ dX8_settle_72 rfl ?_
              refine x_iconst (v := 2) hκ dX8_settle_73 (by decide) ?_
              refine x_icmp_ne (tgt := 82) hκ dX8_settle_74 (by decide) (fun c74 => ?_) (fun c74 => ?_)
              · -- X8_settle 74T
                have i74 := c74
                simp (disch := omega) only [i32_lt, i32_le, i32_eq, Int32.reduceToInt, nI_toInt] at i74
                refine x_ldc hκ q1402 dX8_settle_82 ?_
                refine t_callv hκ (mX8_put hθ (n := o.length) (by exact h6) (by omega)) (by omega) (by decide) wX8_155 aX8_put rfl (Nat.le_of_ble_eq_true rfl) dX8_settle_84 (fun σ84 h84 => ?_)
                subst h84
                refine x_goto (tgt := 0) hκ dX8_settle_87 (by decide) ?_
                have e : opC x = 12000000 := by unfold opC; rw [if_neg (by omega), if_neg (by omega)]
                rw [e] at hpop
                exact ih _ _ _ hpop (by have := step hmx; rw [e] at this; exact this)
              · -- X8_settle 74F
                have i74 := c74
                simp (disch := omega) only [i32_lt, i32_le, i32_eq, Int32.reduceToInt, nI_toInt] at i74
                refine x_ldc hκ q1401 dX8_settle_77 ?_
                refine x_goto (tgt := 84) hκ dX8_settle_79 (by decide) ?_
                refine t_callv hκ (mX8_put hθ (n := o.length) (by exact h6) (by omega)) (by omega) (by decide) wX8_155 aX8_put rfl (Nat.le_of_ble_eq_true rfl) dX8_settle_84 (fun σ84 h84 => ?_)
                subst h84
                refine x_goto (tgt := 0) hκ dX8_settle_87 (by decide) ?_
                have e : opC x = 11000000 := by unfold opC; rw [if_neg (by omega), if_pos (by omega)]
                rw [e] at hpop
                exact ih _ _ _ hpop (by have := step hmx; rw [e] at this; exact this)
            · -- X8_settle 64F
              have i64 := c64
              simp (disch := omega) only [i32_lt, i32_le, i32_eq, Int32.reduceToInt, nI_toInt] at i64
              refine x_ldc hκ q1400 dX8_settle_67 ?_
              refine x_goto (tgt := 84) hκ dX8_settle_69 (by decide) ?_
              refine t_callv hκ (mX8_put hθ (n := o.length) (by exact h6) (by omega)) (by omega) (by decide) wX8_155 aX8_put rfl (Nat.le_of_ble_eq_true rfl) dX8_settle_84 (fun σ84 h84 => ?_)
              subst h84
              refine x_goto (tgt := 0) hκ dX8_settle_87 (by decide) ?_
              have e : opC x = 10000000 := if_pos (by omega)
              rw [e] at hpop
              exact ih _ _ _ hpop (by have := step hmx; rw [e] at this; exact this)
          · -- X8_settle 49F
            have i49 := c49
            simp (disch := omega) only [i32_lt, i32_le, i32_eq, Int32.reduceToInt, nI_toInt] at i49
            refine x_iconst (v := 1) hκ dX8_settle_52 (by decide) ?_
            refine x_goto (tgt := 57) hκ dX8_settle_53 (by decide) ?_
            refine x_isubN hκ (by (try simp (disch := omega) only [tS_1, tS_2, tA_1, tA_2, tF_1, tF_2, xl_0, xl_1, xl_2, Nat.reduceEqDiff, ↓reduceIte, nI_add, nI_1, nm_2, nm_3, nm_4, nm_6, nm_7, nm_8, nm_12, nm_16, nm_24, nm_40, nm_180, nm_300, nm_10210, na_0, na_2, na_3, na_4, na_5, na_6, na_7, na_8, nm_p, nm_m, nI_clamp, h3, ht, h4, Nat.add_sub_cancel]); exact rfl) dX8_settle_57 ?_
            rw [hxs (by omega)]
            refine t_put hκ fl8_13 (by decide) (by decide) rfl rfl rfl dX8_settle_58 ?_
            refine x_aload_n hκ dX8_settle_61 rfl ?_
            refine x_iload_n hκ dX8_settle_62 rfl ?_
            refine x_iconst (v := 3) hκ dX8_settle_63 (by decide) ?_
            refine x_icmp_ne (tgt := 72) hκ dX8_settle_64 (by decide) (fun c64 => ?_) (fun c64 => ?_)
            · -- X8_settle 64T
              have i64 := c64
              simp (disch := omega) only [i32_lt, i32_le, i32_eq, Int32.reduceToInt, nI_toInt] at i64
              refine x_iload_n hκ dX8_settle_72 rfl ?_
              refine x_iconst (v := 2) hκ dX8_settle_73 (by decide) ?_
              refine x_icmp_ne (tgt := 82) hκ dX8_settle_74 (by decide) (fun c74 => ?_) (fun c74 => ?_)
              · -- X8_settle 74T
                have i74 := c74
                simp (disch := omega) only [i32_lt, i32_le, i32_eq, Int32.reduceToInt, nI_toInt] at i74
                refine x_ldc hκ q1402 dX8_settle_82 ?_
                refine t_callv hκ (mX8_put hθ (n := o.length) (by exact h6) (by omega)) (by omega) (by decide) wX8_155 aX8_put rfl (Nat.le_of_ble_eq_true rfl) dX8_settle_84 (fun σ84 h84 => ?_)
                subst h84
                refine x_goto (tgt := 0) hκ dX8_settle_87 (by decide) ?_
                have e : opC x = 12000000 := by unfold opC; rw [if_neg (by omega), if_neg (by omega)]
                rw [e] at hpop
                exact ih _ _ _ hpop (by have := step hmx; rw [e] at this; exact this)
              · -- X8_settle 74F
                have i74 := c74
                simp (disch := omega) only [i32_lt, i32_le, i32_eq, Int32.reduceToInt, nI_toInt] at i74
                refine x_ldc hκ q1401 dX8_settle_77 ?_
                refine x_goto (tgt := 84) hκ dX8_settle_79 (by decide) ?_
                refine t_callv hκ (mX8_put hθ (n := o.length) (by exact h6) (by omega)) (by omega) (by decide) wX8_155 aX8_put rfl (Nat.le_of_ble_eq_true rfl) dX8_settle_84 (fun σ84 h84 => ?_)
                subst h84
                refine x_goto (tgt := 0) hκ dX8_settle_87 (by decide) ?_
                have e : opC x = 11000000 := by unfold opC; rw [if_neg (by omega), if_pos (by omega)]
                rw [e] at hpop
                exact ih _ _ _ hpop (by have := step hmx; rw [e] at this; exact this)
            · -- X8_settle 64F
              have i64 := c64
              simp (disch := omega) only [i32_lt, i32_le, i32_eq, Int32.reduceToInt, nI_toInt] at i64
              refine x_ldc hκ q1400 dX8_settle_67 ?_
              refine x_goto (tgt := 84) hκ dX8_settle_69 (by decide) ?_
              refine t_callv hκ (mX8_put hθ (n := o.length) (by exact h6) (by omega)) (by omega) (by decide) wX8_155 aX8_put rfl (Nat.le_of_ble_eq_true rfl) dX8_settle_84 (fun σ84 h84 => ?_)
              subst h84
              refine x_goto (tgt := 0) hκ dX8_settle_87 (by decide) ?_
              have e : opC x = 10000000 := if_pos (by omega)
              rw [e] at hpop
              exact ih _ _ _ hpop (by have := step hmx; rw [e] at this; exact this)
  exact loop W₀ o₀ σ none hP (fun _ h => h)
theorem mX8_opens {E : gE} {θ : TA} (hθ : tOk θ) {σ : TS} {σ0 : TS} {x : Nat} (hx : x = 0 ∨ x = 3) {a : Nat} {W : List Nat} {o : List Int32} (hP : PW σ0 a W o σ) (ha : a ≤ 200) (hW : W.length ≤ 93) (ho : o.length + W.length ≤ 160) : TMv E θ σ yX8_opens cX8_opens 2 1 [.int (nI x)] (fun σ' => (dep W = 8 → σ' = flt σ a) ∧ (¬ dep W = 8 → PW σ0 (a + 1) (x :: W) o σ')) := by
  refine TMv.of (by decide) (Nat.le_of_ble_eq_true rfl) ?_
  rintro κ rfl hL hκ hr
  have hP' := hP
  obtain ⟨h1, h2, h3, h4, h5, h6, h7, h8, h9, h10⟩ := hP'
  have hdl : ∀ V : List Nat, dep V ≤ V.length := by
    intro V
    induction V with
    | nil => exact Nat.le_refl _
    | cons y V ih => rw [dep, List.length_cons]; split <;> omega
  have hd := hdl W
  refine x_aload_n hκ dX8_opens_0 rfl ?_
  refine t_get hκ fl8_13 (by decide) (by decide) rfl (by (try simp (disch := omega) only [tS_1, tS_2, tA_1, tA_2, tF_1, tF_2, xl_0, xl_1, xl_2, Nat.reduceEqDiff, ↓reduceIte, nI_add, nI_1, nm_2, nm_3, nm_4, nm_6, nm_7, nm_8, nm_12, nm_16, nm_24, nm_40, nm_180, nm_300, nm_10210, na_0, na_2, na_3, na_4, na_5, na_6, na_7, na_8, nm_p, nm_m, nI_clamp, h2, h3, h4]); exact rfl) dX8_opens_1 ?_
  refine x_bipush (v := 8) hκ dX8_opens_4 (by decide) ?_
  refine x_icmp_ne (tgt := 18) hκ dX8_opens_6 (by decide) (fun c6 => ?_) (fun c6 => ?_)
  · -- X8_opens 6T
    have i6 := c6
    simp (disch := omega) only [i32_lt, i32_le, i32_eq, Int32.reduceToInt, nI_toInt] at i6
    refine x_aload_n hκ dX8_opens_18 rfl ?_
    refine x_dup hκ dX8_opens_19 rfl ?_
    refine t_get hκ fl8_13 (by decide) (by decide) rfl (by (try simp (disch := omega) only [tS_1, tS_2, tA_1, tA_2, tF_1, tF_2, xl_0, xl_1, xl_2, Nat.reduceEqDiff, ↓reduceIte, nI_add, nI_1, nm_2, nm_3, nm_4, nm_6, nm_7, nm_8, nm_12, nm_16, nm_24, nm_40, nm_180, nm_300, nm_10210, na_0, na_2, na_3, na_4, na_5, na_6, na_7, na_8, nm_p, nm_m, nI_clamp, h2, h3, h4]); exact rfl) dX8_opens_20 ?_
    refine x_iconst (v := 1) hκ dX8_opens_23 (by decide) ?_
    refine x_iaddN hκ (by (try simp (disch := omega) only [tS_1, tS_2, tA_1, tA_2, tF_1, tF_2, xl_0, xl_1, xl_2, Nat.reduceEqDiff, ↓reduceIte, nI_add, nI_1, nm_2, nm_3, nm_4, nm_6, nm_7, nm_8, nm_12, nm_16, nm_24, nm_40, nm_180, nm_300, nm_10210, na_0, na_2, na_3, na_4, na_5, na_6, na_7, na_8, nm_p, nm_m, nI_clamp, h2, h3, h4]); exact rfl) dX8_opens_24 ?_
    refine t_put hκ fl8_13 (by decide) (by decide) rfl rfl rfl dX8_opens_25 ?_
    refine x_aload_n hκ dX8_opens_28 rfl ?_
    refine t_getA hκ fl8_11 (by decide) (by decide) rfl dX8_opens_29 ?_
    refine x_aload_n hκ dX8_opens_32 rfl ?_
    refine t_get hκ fl8_12 (by decide) (by decide) rfl (by (try simp (disch := omega) only [tS_1, tS_2, tA_1, tA_2, tF_1, tF_2, xl_0, xl_1, xl_2, Nat.reduceEqDiff, ↓reduceIte, nI_add, nI_1, nm_2, nm_3, nm_4, nm_6, nm_7, nm_8, nm_12, nm_16, nm_24, nm_40, nm_180, nm_300, nm_10210, na_0, na_2, na_3, na_4, na_5, na_6, na_7, na_8, nm_p, nm_m, nI_clamp, h2, h3, h4]); exact rfl) dX8_opens_33 ?_
    refine x_iload_n hκ dX8_opens_36 rfl ?_
    refine t_iast (n := 96) hκ hθ (by decide) rfl rfl (by first | ((with_reducible refine vp_in_nI ?_ ?_) <;> omega) | exact i32_in (by omega) (by omega) | exact i32_in' (by simp only [Int32.toInt_add, Int32.toInt_mul, Int32.toInt_sub, Int32.reduceToInt, Int.bmod_add_bmod, Int.bmod_sub_bmod, Int.add_bmod_bmod, Int.sub_bmod_bmod, Int.bmod_mul_bmod, Int.mul_bmod_bmod]; exact i32_bm (by omega) (by omega)) (by omega) (by omega) | exact i32_in (by decide) (by decide)) (by (try simp (disch := omega) only [tS_1, tS_2, tA_1, tA_2, tF_1, tF_2, xl_0, xl_1, xl_2, Nat.reduceEqDiff, ↓reduceIte, nI_add, nI_1, nm_2, nm_3, nm_4, nm_6, nm_7, nm_8, nm_12, nm_16, nm_24, nm_40, nm_180, nm_300, nm_10210, na_0, na_2, na_3, na_4, na_5, na_6, na_7, na_8, nm_p, nm_m, nI_clamp, h2, h3, h4]); exact rfl) dX8_opens_37 ?_
    refine x_aload_n hκ dX8_opens_38 rfl ?_
    refine x_dup hκ dX8_opens_39 rfl ?_
    refine t_get hκ fl8_12 (by decide) (by decide) rfl (by (try simp (disch := omega) only [tS_1, tS_2, tA_1, tA_2, tF_1, tF_2, xl_0, xl_1, xl_2, Nat.reduceEqDiff, ↓reduceIte, nI_add, nI_1, nm_2, nm_3, nm_4, nm_6, nm_7, nm_8, nm_12, nm_16, nm_24, nm_40, nm_180, nm_300, nm_10210, na_0, na_2, na_3, na_4, na_5, na_6, na_7, na_8, nm_p, nm_m, nI_clamp, h2, h3, h4]); exact rfl) dX8_opens_40 ?_
    refine x_iconst (v := 1) hκ dX8_opens_43 (by decide) ?_
    refine x_iaddN hκ (by (try simp (disch := omega) only [tS_1, tS_2, tA_1, tA_2, tF_1, tF_2, xl_0, xl_1, xl_2, Nat.reduceEqDiff, ↓reduceIte, nI_add, nI_1, nm_2, nm_3, nm_4, nm_6, nm_7, nm_8, nm_12, nm_16, nm_24, nm_40, nm_180, nm_300, nm_10210, na_0, na_2, na_3, na_4, na_5, na_6, na_7, na_8, nm_p, nm_m, nI_clamp, h2, h3, h4]); exact rfl) dX8_opens_44 ?_
    refine t_put hκ fl8_12 (by decide) (by decide) rfl rfl rfl dX8_opens_45 ?_
    refine x_aload_n hκ dX8_opens_48 rfl ?_
    refine x_dup hκ dX8_opens_49 rfl ?_
    refine t_get hκ fl8_9 (by decide) (by decide) rfl (by (try simp (disch := omega) only [tS_1, tS_2, tA_1, tA_2, tF_1, tF_2, xl_0, xl_1, xl_2, Nat.reduceEqDiff, ↓reduceIte, nI_add, nI_1, nm_2, nm_3, nm_4, nm_6, nm_7, nm_8, nm_12, nm_16, nm_24, nm_40, nm_180, nm_300, nm_10210, na_0, na_2, na_3, na_4, na_5, na_6, na_7, na_8, nm_p, nm_m, nI_clamp, h2, h3, h4]); exact rfl) dX8_opens_50 ?_
    refine x_iconst (v := 1) hκ dX8_opens_53 (by decide) ?_
    refine x_iaddN hκ (by (try simp (disch := omega) only [tS_1, tS_2, tA_1, tA_2, tF_1, tF_2, xl_0, xl_1, xl_2, Nat.reduceEqDiff, ↓reduceIte, nI_add, nI_1, nm_2, nm_3, nm_4, nm_6, nm_7, nm_8, nm_12, nm_16, nm_24, nm_40, nm_180, nm_300, nm_10210, na_0, na_2, na_3, na_4, na_5, na_6, na_7, na_8, nm_p, nm_m, nI_clamp, h2, h3, h4]); exact rfl) dX8_opens_54 ?_
    refine t_put hκ fl8_9 (by decide) (by decide) rfl rfl rfl dX8_opens_55 ?_
    refine t_retv hκ hr dX8_opens_58 ?_
    refine ⟨fun z => absurd (by omega) c6, fun _ => ?_⟩
    refine ⟨(((h1.S rfl _).A rfl _ _).S rfl _).S rfl _, rfl, ?_, ?_, h5.push x, h6, h7, ?_, ?_, ?_⟩
    · rw [List.length_cons]; rfl
    · rw [dep, if_pos hx, Nat.add_comm]; rfl
    · intro y hy
      rcases List.mem_cons.mp hy with z | z
      · omega
      · exact h8 y z
    · rw [List.length_cons]; omega
    · rw [List.length_cons]; omega
  · -- X8_opens 6F
    have i6 := c6
    simp (disch := omega) only [i32_lt, i32_le, i32_eq, Int32.reduceToInt, nI_toInt] at i6
    refine x_aload_n hκ dX8_opens_9 rfl ?_
    refine x_aload_n hκ dX8_opens_10 rfl ?_
    refine t_get hκ fl8_9 (by decide) (by decide) rfl (by (try simp (disch := omega) only [tS_1, tS_2, tA_1, tA_2, tF_1, tF_2, xl_0, xl_1, xl_2, Nat.reduceEqDiff, ↓reduceIte, nI_add, nI_1, nm_2, nm_3, nm_4, nm_6, nm_7, nm_8, nm_12, nm_16, nm_24, nm_40, nm_180, nm_300, nm_10210, na_0, na_2, na_3, na_4, na_5, na_6, na_7, na_8, nm_p, nm_m, nI_clamp, h2, h3, h4]); exact rfl) dX8_opens_11 ?_
    refine t_callv hκ (mX8_fails hθ) (by omega) (by decide) wX8_142 aX8_fails rfl (Nat.le_of_ble_eq_true rfl) dX8_opens_14 (fun σ14 h14 => ?_)
    subst h14
    refine t_retv hκ hr dX8_opens_17 ?_
    exact ⟨fun _ => rfl, fun z => absurd (by omega) z⟩
