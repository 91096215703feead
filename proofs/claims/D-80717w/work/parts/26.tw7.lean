theorem wX8_325 : GoodIn lw_all (wsV RX8 325 RX8 yX8_gather (ws_ yX8_gather cX8_gather 4 none)) := lw_V q1573 q1575 qs62 q82 q1576
theorem aX8_gather : yX8_gather.cls = RX8 ∧ yX8_gather.cls ≠ "java/lang/invoke/MethodHandle" ∧ yX8_gather.cls ≠ "java/lang/invoke/VarHandle" ∧ (parseMethodDescriptor yX8_gather.desc).map (fun d => d.parameters.length) = some 1 := by decide +kernel
/-! the reference: what holds -/
def scr (k : Nat) : Bool := ([9, 10, 11, 12, 13, 14, 15, 16, 17, 18, 19, 20, 21, 22, 23, 24, 44, 45, 46, 47, 48, 49, 50, 51, 52, 53, 59, 60] : List Nat).contains k
/-- but for what is thrown away behind a call, nothing differs -/
def Pe (σ σ' : TS) : Prop := ∀ k : Nat, scr k = false → σ'.1 k = σ.1 k ∧ σ'.2 k = σ.2 k
theorem Pe.rf (σ : TS) : Pe σ σ := fun _ _ => ⟨rfl, rfl⟩
theorem Pe.trans {a b c : TS} (h : Pe a b) (h2 : Pe b c) : Pe a c := fun k hk => ⟨(h2 k hk).1.trans (h k hk).1, (h2 k hk).2.trans (h k hk).2⟩
theorem Pe.S {a b : TS} (h : Pe a b) {k : Nat} (hk : scr k = true) (v : Int32) : Pe a (tS b k v) := fun j hj => ⟨by rw [tS_1, if_neg (by rintro rfl; rw [hk] at hj; cases hj)]; exact (h j hj).1, (h j hj).2⟩
theorem Pe.F {a b : TS} (h : Pe a b) {k : Nat} (hk : scr k = true) (f : Nat → Int32) : Pe a (tF b k f) := fun j hj => ⟨(h j hj).1, by rw [tF_2, if_neg (by rintro rfl; rw [hk] at hj; cases hj)]; exact (h j hj).2⟩
theorem Pe.A {a b : TS} (h : Pe a b) {k : Nat} (hk : scr k = true) (i : Nat) (v : Int32) : Pe a (tA b k i v) := fun j hj => ⟨(h j hj).1, by rw [tA_2, if_neg (by rintro rfl; rw [hk] at hj; cases hj)]; exact (h j hj).2⟩
theorem Pe.RV {σ σ' : TS} (h : Pe σ σ') {b : Nat} {R : Rl} (hR : RV σ b R) : RV σ' b R := by
  unfold _root_.Jvm.Pilot.CSortedPostLaw_law_r3663_2727c6.RV
  rw [(h 2 rfl).2, (h 3 rfl).2, (h 4 rfl).2, (h 5 rfl).2, (h 6 rfl).2]
  exact hR
theorem i32_nI3 {b : Int32} (h : 0 ≤ b.toInt ∧ b.toInt ≤ 2) : ∃ n : Nat, n < 3 ∧ b = nI n := ⟨Int32.toNatClampNeg b, by show b.toInt.toNat < 3; omega, i32_nI h.1⟩
theorem mX8_atoms {E : gE} {θ : TA} (hθ : tOk θ) {σ : TS} {b : Int32} {R : Nat → Rl} (hR : ∀ k, k < 3 → RV σ k (R k)) : TMi E θ σ yX8_atoms cX8_atoms 2 .int 2 [.int b] (fun r σ' => (r = if 0 ≤ b.toInt ∧ b.toInt ≤ 2 then (if (R (Int32.toNatClampNeg b)).length = 0 then -4 else nI (gth (allC (R (Int32.toNatClampNeg b))) []).length) else -1) ∧ Pe σ σ') := by
  refine TMi.of (by decide) (Nat.le_of_ble_eq_true rfl) ?_
  rintro κ rfl hL hκ hr
  refine x_iload_n hκ dX8_atoms_0 rfl ?_
  refine x_callSi hκ mX8_isBox (by omega) (by decide) wX8_186 aX8_isBox rfl (Nat.le_of_ble_eq_true rfl) dX8_atoms_1 (fun r1 h1 => ?_)
  refine x_if_ne (tgt := 9) hκ dX8_atoms_4 (by decide) (fun c4 => ?_) (fun c4 => ?_)
  · -- X8_atoms 4T
    have i4 := h1.t c4
    try simp only [Int32.reduceToInt] at i4
    obtain ⟨n, hn, rfl⟩ := i32_nI3 i4
    have q1 := nI_clamp (n := n) (by omega)
    have e1 := (hR n hn).1
    have e2 := (hR n hn).2.1
    refine x_aload_n hκ dX8_atoms_9 rfl ?_
    refine t_getA hκ fl8_2 (by decide) (by decide) rfl dX8_atoms_10 ?_
    refine x_iload_n hκ dX8_atoms_13 rfl ?_
    refine t_iald (n := 3) hκ hθ (by decide) rfl rfl (by first | ((with_reducible refine vp_in_nI ?_ ?_) <;> omega) | exact i32_in (by omega) (by omega) | exact i32_in' (by simp only [Int32.toInt_add, Int32.toInt_mul, Int32.toInt_sub, Int32.reduceToInt, Int.bmod_add_bmod, Int.bmod_sub_bmod, Int.add_bmod_bmod, Int.sub_bmod_bmod, Int.bmod_mul_bmod, Int.mul_bmod_bmod]; exact i32_bm (by omega) (by omega)) (by omega) (by omega) | exact i32_in (by decide) (by decide)) (by (try simp (disch := omega) only [tS_1, tS_2, tA_1, tA_2, tF_1, tF_2, xl_0, xl_1, xl_2, Nat.reduceEqDiff, ↓reduceIte, nI_add, nI_1, nm_2, nm_3, nm_4, nm_6, nm_7, nm_8, nm_12, nm_16, nm_24, nm_40, nm_180, nm_300, nm_10210, na_0, na_2, na_3, na_4, na_5, na_6, na_7, na_8, nm_p, nm_m, nI_clamp, q1, e1]); exact rfl) dX8_atoms_14 ?_
    refine x_if_ne (tgt := 21) hκ dX8_atoms_15 (by decide) (fun c15 => ?_) (fun c15 => ?_)
    · -- X8_atoms 15T
      have i15 := c15
      simp (disch := omega) only [i32_lt, i32_le, i32_eq, Int32.reduceToInt, nI_toInt] at i15
      refine x_aload_n hκ dX8_atoms_21 rfl ?_
      refine x_iload_n hκ dX8_atoms_22 rfl ?_
      refine t_callv hκ (mX8_gather hθ hn (hR n hn)) (by omega) (by decide) wX8_325 aX8_gather rfl (Nat.le_of_ble_eq_true rfl) dX8_atoms_23 (fun σ23 h23 => ?_)
      obtain ⟨g, rfl, hg⟩ := h23
      refine x_aload_n hκ dX8_atoms_26 rfl ?_
      refine t_get hκ fl8_60 (by decide) (by decide) rfl (by (try simp (disch := omega) only [tS_1, tS_2, tA_1, tA_2, tF_1, tF_2, xl_0, xl_1, xl_2, Nat.reduceEqDiff, ↓reduceIte, nI_add, nI_1, nm_2, nm_3, nm_4, nm_6, nm_7, nm_8, nm_12, nm_16, nm_24, nm_40, nm_180, nm_300, nm_10210, na_0, na_2, na_3, na_4, na_5, na_6, na_7, na_8, nm_p, nm_m, nI_clamp, q1, e1]); exact rfl) dX8_atoms_27 ?_
      refine t_reti hκ hr rfl dX8_atoms_30 ?_
      rw [if_pos i4, q1, if_neg (by omega)]
      exact ⟨rfl, ((Pe.rf σ).F rfl g).S rfl _⟩
    · -- X8_atoms 15F
      have i15 := c15
      simp (disch := omega) only [i32_lt, i32_le, i32_eq, Int32.reduceToInt, nI_toInt] at i15
      refine x_bipush (v := (-4)) hκ dX8_atoms_18 (by decide) ?_
      refine t_reti hκ hr rfl dX8_atoms_20 ?_
      rw [if_pos i4, q1, if_pos (by omega)]
      exact ⟨rfl, Pe.rf σ⟩
  · -- X8_atoms 4F
    have i4 := h1.f c4
    try simp only [Int32.reduceToInt] at i4
    refine x_iconst (v := (-1)) hκ dX8_atoms_7 (by decide) ?_
    refine t_reti hκ hr rfl dX8_atoms_8 ?_
    rw [if_neg i4]
    exact ⟨rfl, Pe.rf σ⟩
theorem mX8_hasStop {E : gE} {θ : TA} (hθ : tOk θ) {σ : TS} {b r : Nat} (hb : b < 3) {R : Rl} (hR : RV σ b R) {q : List Int32 × List Int32} (hq : R[r]? = some q) : TMi E θ σ yX8_hasStop cX8_hasStop 5 .boolean 0 [.int (nI b), .int (nI r)] (fun z σ' => Tz (10 ∈ q.2) z ∧ σ' = σ) := by
  refine TMi.of (by decide) (Nat.le_of_ble_eq_true rfl) ?_
  rintro κ rfl hL hκ hr
  obtain ⟨-, e1, hA, hw⟩ := hR.2.2.2.2 r q hq
  have hr6 : r < 6 := Nat.lt_of_lt_of_le (List.getElem?_eq_some_iff.mp hq).1 hR.2.1
  have h4 := hw.2.2.1
  have loop : ∀ (m i : Nat) (z : Int32), i ≤ q.2.length → q.2.length - i < m → Tz (10 ∈ q.2.take i) z → X κ (tG (kE κ) θ σ) 0 0 5 [some (.ref θ.1), some (.int (nI b)), some (.int (nI r)), some (.int z), some (.int (nI i))] [] := by
    intro m
    induction m with
    | zero => intro i z h1 h2; exact absurd h2 (Nat.not_lt_zero _)
    | succ m ih =>
      intro i z hi hm hz
      have ht : ∀ h : i < q.2.length, q.2.take (i + 1) = q.2.take i ++ [σ.2 5 (24 * b + 4 * r + i)] := fun h => by rw [List.take_add_one, hA i h]; rfl
      refine x_iload hκ dX8_hasStop_5 rfl ?_
      refine x_aload_n hκ dX8_hasStop_7 rfl ?_
      refine t_getA hκ fl8_6 (by decide) (by decide) rfl dX8_hasStop_8 ?_
      refine x_bipush (v := 6) hκ dX8_hasStop_11 (by decide) ?_
      refine x_iload_n hκ dX8_hasStop_13 rfl ?_
      refine x_imulN hκ (by (try simp (disch := omega) only [tS_1, tS_2, tA_1, tA_2, tF_1, tF_2, xl_0, xl_1, xl_2, Nat.reduceEqDiff, ↓reduceIte, nI_add, nI_1, nm_2, nm_3, nm_4, nm_6, nm_7, nm_8, nm_12, nm_16, nm_24, nm_40, nm_180, nm_300, nm_10210, na_0, na_2, na_3, na_4, na_5, na_6, na_7, na_8, nm_p, nm_m, nI_clamp, e1]); exact rfl) dX8_hasStop_14 ?_
      refine x_iload_n hκ dX8_hasStop_15 rfl ?_
      refine x_iaddN hκ (by (try simp (disch := omega) only [tS_1, tS_2, tA_1, tA_2, tF_1, tF_2, xl_0, xl_1, xl_2, Nat.reduceEqDiff, ↓reduceIte, nI_add, nI_1, nm_2, nm_3, nm_4, nm_6, nm_7, nm_8, nm_12, nm_16, nm_24, nm_40, nm_180, nm_300, nm_10210, na_0, na_2, na_3, na_4, na_5, na_6, na_7, na_8, nm_p, nm_m, nI_clamp, e1]); exact rfl) dX8_hasStop_16 ?_
      refine t_iald (n := 18) hκ hθ (by decide) rfl rfl (by first | ((with_reducible refine vp_in_nI ?_ ?_) <;> omega) | exact i32_in (by omega) (by omega) | exact i32_in' (by simp only [Int32.toInt_add, Int32.toInt_mul, Int32.toInt_sub, Int32.reduceToInt, Int.bmod_add_bmod, Int.bmod_sub_bmod, Int.add_bmod_bmod, Int.sub_bmod_bmod, Int.bmod_mul_bmod, Int.mul_bmod_bmod]; exact i32_bm (by omega) (by omega)) (by omega) (by omega) | exact i32_in (by decide) (by decide)) (by (try simp (disch := omega) only [tS_1, tS_2, tA_1, tA_2, tF_1, tF_2, xl_0, xl_1, xl_2, Nat.reduceEqDiff, ↓reduceIte, nI_add, nI_1, nm_2, nm_3, nm_4, nm_6, nm_7, nm_8, nm_12, nm_16, nm_24, nm_40, nm_180, nm_300, nm_10210, na_0, na_2, na_3, na_4, na_5, na_6, na_7, na_8, nm_p, nm_m, nI_clamp, e1]); exact rfl) dX8_hasStop_17 ?_
      refine x_icmp_ge (tgt := 58) hκ dX8_hasStop_18 (by decide) (fun c18 => ?_) (fun c18 => ?_)
      · -- X8_hasStop 18T
        have i18 := c18
        simp (disch := omega) only [i32_lt, i32_le, i32_eq, Int32.reduceToInt, nI_toInt] at i18
        refine x_iload_n hκ dX8_hasStop_58 rfl ?_
        refine t_retz hκ hr rfl dX8_hasStop_59 hz.b ?_
        obtain rfl : i = q.2.length := by omega
        rw [List.take_length] at hz
        exact ⟨hz, rfl⟩
      · -- X8_hasStop 18F
        have i18 := c18
        simp (disch := omega) only [i32_lt, i32_le, i32_eq, Int32.reduceToInt, nI_toInt] at i18
        refine x_iload_n hκ dX8_hasStop_21 rfl ?_
        refine x_if_ne (tgt := 46) hκ dX8_hasStop_22 (by decide) (fun c22 => ?_) (fun c22 => ?_)
        · -- X8_hasStop 22T
          have i22 := c22
          simp (disch := omega) only [i32_lt, i32_le, i32_eq, Int32.reduceToInt, nI_toInt] at i22
          refine x_iconst (v := 1) hκ dX8_hasStop_46 (by decide) ?_
          refine x_goto (tgt := 51) hκ dX8_hasStop_47 (by decide) ?_
          refine x_istore_n hκ dX8_hasStop_51 (by rw [hL]; decide) rfl ?_
          refine x_iincN (y := 1) hκ dX8_hasStop_52 (by decide) rfl (by rw [hL]; decide) rfl (by (try simp (disch := omega) only [tS_1, tS_2, tA_1, tA_2, tF_1, tF_2, xl_0, xl_1, xl_2, Nat.reduceEqDiff, ↓reduceIte, nI_add, nI_1, nm_2, nm_3, nm_4, nm_6, nm_7, nm_8, nm_12, nm_16, nm_24, nm_40, nm_180, nm_300, nm_10210, na_0, na_2, na_3, na_4, na_5, na_6, na_7, na_8, nm_p, nm_m, nI_clamp, e1]); exact rfl) ?_
          refine x_goto (tgt := 5) hκ dX8_hasStop_55 (by decide) ?_
          exact ih (i + 1) 1 (by omega) (by omega) (Tz1 (by rw [ht (by omega)]; exact List.mem_append_left _ (hz.t c22)))
        · -- X8_hasStop 22F
          have i22 := c22
          simp (disch := omega) only [i32_lt, i32_le, i32_eq, Int32.reduceToInt, nI_toInt] at i22
          refine x_aload_n hκ dX8_hasStop_25 rfl ?_
          refine t_getA hκ fl8_5 (by decide) (by decide) rfl dX8_hasStop_26 ?_
          refine x_bipush (v := 24) hκ dX8_hasStop_29 (by decide) ?_
          refine x_iload_n hκ dX8_hasStop_31 rfl ?_
          refine x_imulN hκ (by (try simp (disch := omega) only [tS_1, tS_2, tA_1, tA_2, tF_1, tF_2, xl_0, xl_1, xl_2, Nat.reduceEqDiff, ↓reduceIte, nI_add, nI_1, nm_2, nm_3, nm_4, nm_6, nm_7, nm_8, nm_12, nm_16, nm_24, nm_40, nm_180, nm_300, nm_10210, na_0, na_2, na_3, na_4, na_5, na_6, na_7, na_8, nm_p, nm_m, nI_clamp, e1]); exact rfl) dX8_hasStop_32 ?_
          refine x_iconst (v := 4) hκ dX8_hasStop_33 (by decide) ?_
          refine x_iload_n hκ dX8_hasStop_34 rfl ?_
          refine x_imulN hκ (by (try simp (disch := omega) only [tS_1, tS_2, tA_1, tA_2, tF_1, tF_2, xl_0, xl_1, xl_2, Nat.reduceEqDiff, ↓reduceIte, nI_add, nI_1, nm_2, nm_3, nm_4, nm_6, nm_7, nm_8, nm_12, nm_16, nm_24, nm_40, nm_180, nm_300, nm_10210, na_0, na_2, na_3, na_4, na_5, na_6, na_7, na_8, nm_p, nm_m, nI_clamp, e1]); exact rfl) dX8_hasStop_35 ?_
          refine x_iaddN hκ (by (try simp (disch := omega) only [tS_1, tS_2, tA_1, tA_2, tF_1, tF_2, xl_0, xl_1, xl_2, Nat.reduceEqDiff, ↓reduceIte, nI_add, nI_1, nm_2, nm_3, nm_4, nm_6, nm_7, nm_8, nm_12, nm_16, nm_24, nm_40, nm_180, nm_300, nm_10210, na_0, na_2, na_3, na_4, na_5, na_6, na_7, na_8, nm_p, nm_m, nI_clamp, e1]); exact rfl) dX8_hasStop_36 ?_
          refine x_iload hκ dX8_hasStop_37 rfl ?_
          refine x_iaddN hκ (by (try simp (disch := omega) only [tS_1, tS_2, tA_1, tA_2, tF_1, tF_2, xl_0, xl_1, xl_2, Nat.reduceEqDiff, ↓reduceIte, nI_add, nI_1, nm_2, nm_3, nm_4, nm_6, nm_7, nm_8, nm_12, nm_16, nm_24, nm_40, nm_180, nm_300, nm_10210, na_0, na_2, na_3, na_4, na_5, na_6, na_7, na_8, nm_p, nm_m, nI_clamp, e1]); exact rfl) dX8_hasStop_39 ?_
          refine t_iald (n := 72) hκ hθ (by decide) rfl rfl (by first | ((with_reducible refine vp_in_nI ?_ ?_) <;> omega) | exact i32_in (by omega) (by omega) | exact i32_in' (by simp only [Int32.toInt_add, Int32.toInt_mul, Int32.toInt_sub, Int32.reduceToInt, Int.bmod_add_bmod, Int.bmod_sub_bmod, Int.add_bmod_bmod, Int.sub_bmod_bmod, Int.bmod_mul_bmod, Int.mul_bmod_bmod]; exact i32_bm (by omega) (by omega)) (by omega) (by omega) | exact i32_in (by decide) (by decide)) (by (try simp (disch := omega) only [tS_1, tS_2, tA_1, tA_2, tF_1, tF_2, xl_0, xl_1, xl_2, Nat.reduceEqDiff, ↓reduceIte, nI_add, nI_1, nm_2, nm_3, nm_4, nm_6, nm_7, nm_8, nm_12, nm_16, nm_24, nm_40, nm_180, nm_300, nm_10210, na_0, na_2, na_3, na_4, na_5, na_6, na_7, na_8, nm_p, nm_m, nI_clamp, e1]); exact rfl) dX8_hasStop_40 ?_
          refine x_bipush (v := 10) hκ dX8_hasStop_41 (by decide) ?_
          refine x_icmp_ne (tgt := 50) hκ dX8_hasStop_43 (by decide) (fun c43 => ?_) (fun c43 => ?_)
          · -- X8_hasStop 43T
            have i43 := c43
            simp (disch := omega) only [i32_lt, i32_le, i32_eq, Int32.reduceToInt, nI_toInt] at i43
            refine x_iconst (v := 0) hκ dX8_hasStop_50 (by decide) ?_
            refine x_istore_n hκ dX8_hasStop_51 (by rw [hL]; decide) rfl ?_
            refine x_iincN (y := 1) hκ dX8_hasStop_52 (by decide) rfl (by rw [hL]; decide) rfl (by (try simp (disch := omega) only [tS_1, tS_2, tA_1, tA_2, tF_1, tF_2, xl_0, xl_1, xl_2, Nat.reduceEqDiff, ↓reduceIte, nI_add, nI_1, nm_2, nm_3, nm_4, nm_6, nm_7, nm_8, nm_12, nm_16, nm_24, nm_40, nm_180, nm_300, nm_10210, na_0, na_2, na_3, na_4, na_5, na_6, na_7, na_8, nm_p, nm_m, nI_clamp, e1]); exact rfl) ?_
            refine x_goto (tgt := 5) hκ dX8_hasStop_55 (by decide) ?_
            exact ih (i + 1) 0 (by omega) (by omega) (Tz0 (by rw [ht (by omega), List.mem_append, List.mem_singleton]; rintro (z1 | z1); exact hz.f c22 z1; exact c43 z1.symm))
          · -- X8_hasStop 43F
            have i43 := c43
            simp (disch := omega) only [i32_lt, i32_le, i32_eq, Int32.reduceToInt, nI_toInt] at i43
            refine x_iconst (v := 1) hκ dX8_hasStop_46 (by decide) ?_
            refine x_goto (tgt := 51) hκ dX8_hasStop_47 (by decide) ?_
            refine x_istore_n hκ dX8_hasStop_51 (by rw [hL]; decide) rfl ?_
            refine x_iincN (y := 1) hκ dX8_hasStop_52 (by decide) rfl (by rw [hL]; decide) rfl (by (try simp (disch := omega) only [tS_1, tS_2, tA_1, tA_2, tF_1, tF_2, xl_0, xl_1, xl_2, Nat.reduceEqDiff, ↓reduceIte, nI_add, nI_1, nm_2, nm_3, nm_4, nm_6, nm_7, nm_8, nm_12, nm_16, nm_24, nm_40, nm_180, nm_300, nm_10210, na_0, na_2, na_3, na_4, na_5, na_6, na_7, na_8, nm_p, nm_m, nI_clamp, e1]); exact rfl) ?_
            refine x_goto (tgt := 5) hκ dX8_hasStop_55 (by decide) ?_
            exact ih (i + 1) 1 (by omega) (by omega) (Tz1 (by rw [ht (by omega)]; exact List.mem_append_right _ (by rw [c43]; exact List.mem_singleton.mpr rfl)))
  refine x_iconst (v := 0) hκ dX8_hasStop_0 (by decide) ?_
  refine x_istore_n hκ dX8_hasStop_1 (by rw [hL]; decide) rfl ?_
  refine x_iconst (v := 0) hκ dX8_hasStop_2 (by decide) ?_
  refine x_istore hκ dX8_hasStop_3 (by rw [hL]; decide) rfl ?_
  exact loop (q.2.length + 1) 0 0 (by omega) (by omega) (Tz0 (by rw [List.take_zero]; exact List.not_mem_nil))
/-- trays in which acts file, ahead of a stop -/
def fo : List Int32 → Int32 → Int32
  | [], t => t
  | c :: l, t => if c = 10 then t ||| (if c < 4 then 1 <<< (c &&& 31) else 0) else fo l (t ||| (if c < 4 then 1 <<< (c &&& 31) else 0))
theorem mX8_filesOf {E : gE} {θ : TA} (hθ : tOk θ) {σ : TS} {b r : Nat} (hb : b < 3) {R : Rl} (hR : RV σ b R) {q : List Int32 × List Int32} (hq : R[r]? = some q) : TMi E θ σ yX8_filesOf cX8_filesOf 7 .int 0 [.int (nI b), .int (nI r)] (fun z σ' => z = fo q.2 0 ∧ σ' = σ) := by
  refine TMi.of (by decide) (Nat.le_of_ble_eq_true rfl) ?_
  rintro κ rfl hL hκ hr
  obtain ⟨-, e1, hA, hw⟩ := hR.2.2.2.2 r q hq
  have hr6 : r < 6 := Nat.lt_of_lt_of_le (List.getElem?_eq_some_iff.mp hq).1 hR.2.1
  have h4 := hw.2.2.1
  have loop : ∀ (m i : Nat) (t z : Int32) (o : Option Value), i ≤ q.2.length → q.2.length - i < m → (z = 0 ∧ fo q.2 0 = fo (q.2.drop i) t) ∨ (¬ z = 0 ∧ fo q.2 0 = t) → X κ (tG (kE κ) θ σ) 0 0 8 [some (.ref θ.1), some (.int (nI b)), some (.int (nI r)), some (.int t), some (.int z), some (.int (nI i)), o] [] := by
    intro m
    induction m with
    | zero => intro i t z o h1 h2; exact absurd h2 (Nat.not_lt_zero _)
    | succ m ih =>
      intro i t z o hi hm hz
      have ht : ∀ h : i < q.2.length, q.2.drop i = σ.2 5 (24 * b + 4 * r + i) :: q.2.drop (i + 1) := fun h => hA.drop h
      refine x_iload hκ dX8_filesOf_8 rfl ?_
      refine x_aload_n hκ dX8_filesOf_10 rfl ?_
      refine t_getA hκ fl8_6 (by decide) (by decide) rfl dX8_filesOf_11 ?_
      refine x_bipush (v := 6) hκ dX8_filesOf_14 (by decide) ?_
      refine x_iload_n hκ dX8_filesOf_16 rfl ?_
      refine x_imulN hκ (by (try simp (disch := omega) only [tS_1, tS_2, tA_1, tA_2, tF_1, tF_2, xl_0, xl_1, xl_2, Nat.reduceEqDiff, ↓reduceIte, nI_add, nI_1, nm_2, nm_3, nm_4, nm_6, nm_7, nm_8, nm_12, nm_16, nm_24, nm_40, nm_180, nm_300, nm_10210, na_0, na_2, na_3, na_4, na_5, na_6, na_7, na_8, nm_p, nm_m, nI_clamp, e1]); exact rfl) dX8_filesOf_17 ?_
      refine x_iload_n hκ dX8_filesOf_18 rfl ?_
      refine x_iaddN hκ (by (try simp (disch := omega) only [tS_1, tS_2, tA_1, tA_2, tF_1, tF_2, xl_0, xl_1, xl_2, Nat.reduceEqDiff, ↓reduceIte, nI_add, nI_1, nm_2, nm_3, nm_4, nm_6, nm_7, nm_8, nm_12, nm_16, nm_24, nm_40, nm_180, nm_300, nm_10210, na_0, na_2, na_3, na_4, na_5, na_6, na_7, na_8, nm_p, nm_m, nI_clamp, e1]); exact rfl) dX8_filesOf_19 ?_
      refine t_iald (n := 18) hκ hθ (by decide) rfl rfl (by first | ((with_reducible refine vp_in_nI ?_ ?_) <;> omega) | exact i32_in (by omega) (by omega) | exact i32_in' (by simp only [Int32.toInt_add, Int32.toInt_mul, Int32.toInt_sub, Int32.reduceToInt, Int.bmod_add_bmod, Int.bmod_sub_bmod, Int.add_bmod_bmod, Int.sub_bmod_bmod, Int.bmod_mul_bmod, Int.mul_bmod_bmod]; exact i32_bm (by omega) (by omega)) (by omega) (by omega) | exact i32_in (by decide) (by decide)) (by (try simp (disch := omega) only [tS_1, tS_2, tA_1, tA_2, tF_1, tF_2, xl_0, xl_1, xl_2, Nat.reduceEqDiff, ↓reduceIte, nI_add, nI_1, nm_2, nm_3, nm_4, nm_6, nm_7, nm_8, nm_12, nm_16, nm_24, nm_40, nm_180, nm_300, nm_10210, na_0, na_2, na_3, na_4, na_5, na_6, na_7, na_8, nm_p, nm_m, nI_clamp, e1]); exact rfl) dX8_filesOf_20 ?_
      refine x_icmp_ge (tgt := 84) hκ dX8_filesOf_21 (by decide) (fun c21 => ?_) (fun c21 => ?_)
      · -- X8_filesOf 21T
        have i21 := c21
        simp (disch := omega) only [i32_lt, i32_le, i32_eq, Int32.reduceToInt, nI_toInt] at i21
        refine x_iload_n hκ dX8_filesOf_84 rfl ?_
        refine t_reti hκ hr rfl dX8_filesOf_85 ?_
        obtain rfl : i = q.2.length := by omega
        refine ⟨?_, rfl⟩
        rcases hz with ⟨-, z1⟩ | ⟨-, z1⟩
        · rw [z1, List.drop_length, fo]
        · exact z1.symm
      · -- X8_filesOf 21F
        have i21 := c21
        simp (disch := omega) only [i32_lt, i32_le, i32_eq, Int32.reduceToInt, nI_toInt] at i21
        refine x_iload hκ dX8_filesOf_24 rfl ?_
        refine x_if_ne (tgt := 84) hκ dX8_filesOf_26 (by decide) (fun c26 => ?_) (fun c26 => ?_)
        · -- X8_filesOf 26T
          have i26 := c26
          simp (disch := omega) only [i32_lt, i32_le, i32_eq, Int32.reduceToInt, nI_toInt] at i26
          refine x_iload_n hκ dX8_filesOf_84 rfl ?_
          refine t_reti hκ hr rfl dX8_filesOf_85 ?_
          refine ⟨?_, rfl⟩
          rcases hz with ⟨z1, -⟩ | ⟨-, z1⟩
          · exact absurd z1 c26
          · exact z1.symm
        · -- X8_filesOf 26F
          have i26 := c26
          simp (disch := omega) only [i32_lt, i32_le, i32_eq, Int32.reduceToInt, nI_toInt] at i26
          have hz : fo q.2 0 = fo (q.2.drop i) t := by rcases hz with ⟨-, z1⟩ | ⟨z1, -⟩; exact z1; exact absurd c26 z1
          rw [ht (by omega), fo] at hz
          refine x_aload_n hκ dX8_filesOf_29 rfl ?_
          refine t_getA hκ fl8_5 (by decide) (by decide) rfl dX8_filesOf_30 ?_
          refine x_bipush (v := 24) hκ dX8_filesOf_33 (by decide) ?_
          refine x_iload_n hκ dX8_filesOf_35 rfl ?_
          refine x_imulN hκ (by (try simp (disch := omega) only [tS_1, tS_2, tA_1, tA_2, tF_1, tF_2, xl_0, xl_1, xl_2, Nat.reduceEqDiff, ↓reduceIte, nI_add, nI_1, nm_2, nm_3, nm_4, nm_6, nm_7, nm_8, nm_12, nm_16, nm_24, nm_40, nm_180, nm_300, nm_10210, na_0, na_2, na_3, na_4, na_5, na_6, na_7, na_8, nm_p, nm_m, nI_clamp, e1]); exact rfl) dX8_filesOf_36 ?_
          refine x_iconst (v := 4) hκ dX8_filesOf_37 (by decide) ?_
          refine x_iload_n hκ dX8_filesOf_38 rfl ?_
          refine x_imulN hκ (by (try simp (disch := omega) only [tS_1, tS_2, tA_1, tA_2, tF_1, tF_2, xl_0, xl_1, xl_2, Nat.reduceEqDiff, ↓reduceIte, nI_add, nI_1, nm_2, nm_3, nm_4, nm_6, nm_7, nm_8, nm_12, nm_16, nm_24, nm_40, nm_180, nm_300, nm_10210, na_0, na_2, na_3, na_4, na_5, na_6, na_7, na_8, nm_p, nm_m, nI_clamp, e1]); exact rfl) dX8_filesOf_39 ?_
          refine x_iaddN hκ (by (try simp (disch := omega) only [tS_1, tS_2, tA_1, tA_2, tF_1, tF_2, xl_0, xl_1, xl_2, Nat.reduceEqDiff, ↓reduceIte, nI_add, nI_1, nm_2, nm_3, nm_4, nm_6, nm_7, nm_8, nm_12, nm_16, nm_24, nm_40, nm_180, nm_300, nm_10210, na_0, na_2, na_3, na_4, na_5, na_6, na_7, na_8, nm_p, nm_m, nI_clamp, e1]); exact rfl) dX8_filesOf_40 ?_
          refine x_iload hκ dX8_filesOf_41 rfl ?_
          refine x_iaddN hκ (by (try simp (disch := omega) only [tS_1, tS_2, tA_1, tA_2, tF_1, tF_2, xl_0, xl_1, xl_2, Nat.reduceEqDiff, ↓reduceIte, nI_add, nI_1, nm_2, nm_3, nm_4, nm_6, nm_7, nm_8, nm_12, nm_16, nm_24, nm_40, nm_180, nm_300, nm_10210, na_0, na_2, na_3, na_4, na_5, na_6, na_7, na_8, nm_p, nm_m, nI_clamp, e1]); exact rfl) dX8_filesOf_43 ?_
          refine t_iald (n := 72) hκ hθ (by decide) rfl rfl (by first | ((with_reducible refine vp_in_nI ?_ ?_) <;> omega) | exact i32_in (by omega) (by omega) | exact i32_in' (by simp only [Int32.toInt_add, Int32.toInt_mul, Int32.toInt_sub, Int32.reduceToInt, Int.bmod_add_bmod, Int.bmod_sub_bmod, Int.add_bmod_bmod, Int.sub_bmod_bmod, Int.bmod_mul_bmod, Int.mul_bmod_bmod]; exact i32_bm (by omega) (by omega)) (by omega) (by omega) | exact i32_in (by decide) (by decide)) (by (try simp (disch := omega) only [tS_1, tS_2, tA_1, tA_2, tF_1, tF_2, xl_0, xl_1, xl_2, Nat.reduceEqDiff, ↓reduceIte, nI_add, nI_1, nm_2, nm_3, nm_4, nm_6, nm_7, nm_8, nm_12, nm_16, nm_24, nm_40, nm_180, nm_300, nm_10210, na_0, na_2, na_3, na_4, na_5, na_6, na_7, na_8, nm_p, nm_m, nI_clamp, e1]); exact rfl) dX8_filesOf_44 ?_
          refine x_istore hκ dX8_filesOf_45 (by rw [hL]; decide) rfl ?_
          refine x_iload_n hκ dX8_filesOf_47 rfl ?_
          refine x_iload hκ dX8_filesOf_48 rfl ?_
          refine x_iconst (v := 4) hκ dX8_filesOf_50 (by decide) ?_
          refine x_icmp_ge (tgt := 61) hκ dX8_filesOf_51 (by decide) (fun c51 => ?_) (fun c51 => ?_)
          · -- X8_filesOf 51T
            have i51 := c51
            simp (disch := omega) only [i32_lt, i32_le, i32_eq, Int32.reduceToInt, nI_toInt] at i51
            refine x_iconst (v := 0) hκ dX8_filesOf_61 (by decide) ?_
            refine x_ior hκ dX8_filesOf_62 ?_
            refine x_istore_n hκ dX8_filesOf_63 (by rw [hL]; decide) rfl ?_
            refine x_iload hκ dX8_filesOf_64 rfl ?_
            refine x_bipush (v := 10) hκ dX8_filesOf_66 (by decide) ?_
            refine x_icmp_ne (tgt := 75) hκ dX8_filesOf_68 (by decide) (fun c68 => ?_) (fun c68 => ?_)
            · -- X8_filesOf 68T
              have i68 := c68
              simp (disch := omega) only [i32_lt, i32_le, i32_eq, Int32.reduceToInt, nI_toInt] at i68
              refine x_iconst (v := 0) hκ dX8_filesOf_75 (by decide) ?_
              refine x_istore hκ dX8_filesOf_76 (by rw [hL]; decide) rfl ?_
              refine x_iincN (y := 1) hκ dX8_filesOf_78 (by decide) rfl (by rw [hL]; decide) rfl (by (try simp (disch := omega) only [tS_1, tS_2, tA_1, tA_2, tF_1, tF_2, xl_0, xl_1, xl_2, Nat.reduceEqDiff, ↓reduceIte, nI_add, nI_1, nm_2, nm_3, nm_4, nm_6, nm_7, nm_8, nm_12, nm_16, nm_24, nm_40, nm_180, nm_300, nm_10210, na_0, na_2, na_3, na_4, na_5, na_6, na_7, na_8, nm_p, nm_m, nI_clamp, e1]); exact rfl) ?_
              refine x_goto (tgt := 8) hκ dX8_filesOf_81 (by decide) ?_
              rw [if_neg c68, if_neg (by simp only [i32_lt, Int32.reduceToInt]; omega)] at hz
              exact ih (i + 1) _ 0 _ (by omega) (by omega) (Or.inl ⟨rfl, hz⟩)
            · -- X8_filesOf 68F
              have i68 := c68
              simp (disch := omega) only [i32_lt, i32_le, i32_eq, Int32.reduceToInt, nI_toInt] at i68
              refine x_iconst (v := 1) hκ dX8_filesOf_71 (by decide) ?_
              refine x_goto (tgt := 76) hκ dX8_filesOf_72 (by decide) ?_
              refine x_istore hκ dX8_filesOf_76 (by rw [hL]; decide) rfl ?_
              refine x_iincN (y := 1) hκ dX8_filesOf_78 (by decide) rfl (by rw [hL]; decide) rfl (by (try simp (disch := omega) only [tS_1, tS_2, tA_1, tA_2, tF_1, tF_2, xl_0, xl_1, xl_2, Nat.reduceEqDiff, ↓reduceIte, nI_add, nI_1, nm_2, nm_3, nm_4, nm_6, nm_7, nm_8, nm_12, nm_16, nm_24, nm_40, nm_180, nm_300, nm_10210, na_0, na_2, na_3, na_4, na_5, na_6, na_7, na_8, nm_p, nm_m, nI_clamp, e1]); exact rfl) ?_
              refine x_goto (tgt := 8) hκ dX8_filesOf_81 (by decide) ?_
              rw [if_pos c68, if_neg (by simp only [i32_lt, Int32.reduceToInt]; omega)] at hz
              exact ih (i + 1) _ 1 _ (by omega) (by omega) (Or.inr ⟨by decide, hz⟩)
          · -- X8_filesOf 51F
            have i51 := c51
            simp (disch := omega) only [i32_lt, i32_le, i32_eq, Int32.reduceToInt, nI_toInt] at i51
            refine x_iconst (v := 1) hκ dX8_filesOf_54 (by decide) ?_
            refine x_iload hκ dX8_filesOf_55 rfl ?_
            refine x_ishl hκ dX8_filesOf_57 ?_
            refine x_goto (tgt := 62) hκ dX8_filesOf_58 (by decide) ?_
            refine x_ior hκ dX8_filesOf_62 ?_
            refine x_istore_n hκ dX8_filesOf_63 (by rw [hL]; decide) rfl ?_
            refine x_iload hκ dX8_filesOf_64 rfl ?_
            refine x_bipush (v := 10) hκ dX8_filesOf_66 (by decide) ?_
            refine x_icmp_ne (tgt := 75) hκ dX8_filesOf_68 (by decide) (fun c68 => ?_) (fun c68 => ?_)
            · -- X8_filesOf 68T
              have i68 := c68
              simp (disch := omega) only [i32_lt, i32_le, i32_eq, Int32.reduceToInt, nI_toInt] at i68
              refine x_iconst (v := 0) hκ dX8_filesOf_75 (by decide) ?_
              refine x_istore hκ dX8_filesOf_76 (by rw [hL]; decide) rfl ?_
              refine x_iincN (y := 1) hκ dX8_filesOf_78 (by decide) rfl (by rw [hL]; decide) rfl (by (try simp (disch := omega) only [tS_1, tS_2, tA_1, tA_2, tF_1, tF_2, xl_0, xl_1, xl_2, Nat.reduceEqDiff, ↓reduceIte, nI_add, nI_1, nm_2, nm_3, nm_4, nm_6, nm_7, nm_8, nm_12, nm_16, nm_24, nm_40, nm_180, nm_300, nm_10210, na_0, na_2, na_3, na_4, na_5, na_6, na_7, na_8, nm_p, nm_m, nI_clamp, e1]); exact rfl) ?_
              refine x_goto (tgt := 8) hκ dX8_filesOf_81 (by decide) ?_
              rw [if_neg c68, if_pos (by simp only [i32_lt, Int32.reduceToInt]; omega)] at hz
              exact ih (i + 1) _ 0 _ (by omega) (by omega) (Or.inl ⟨rfl, hz⟩)
            · -- X8_filesOf 68F
              have i68 := c68
              simp (disch := omega) only [i32_lt, i32_le, i32_eq, Int32.reduceToInt, nI_toInt] at i68
              refine x_iconst (v := 1) hκ dX8_filesOf_71 (by decide) ?_
              refine x_goto (tgt := 76) hκ dX8_filesOf_72 (by decide) ?_
              refine x_istore hκ dX8_filesOf_76 (by rw [hL]; decide) rfl ?_
              refine x_iincN (y := 1) hκ dX8_filesOf_78 (by decide) rfl (by rw [hL]; decide) rfl (by (try simp (disch := omega) only [tS_1, tS_2, tA_1, tA_2, tF_1, tF_2, xl_0, xl_1, xl_2, Nat.reduceEqDiff, ↓reduceIte, nI_add, nI_1, nm_2, nm_3, nm_4, nm_6, nm_7, nm_8, nm_12, nm_16, nm_24, nm_40, nm_180, nm_300, nm_10210, na_0, na_2, na_3, na_4, na_5, na_6, na_7, na_8, nm_p, nm_m, nI_clamp, e1]); exact rfl) ?_
              refine x_goto (tgt := 8) hκ dX8_filesOf_81 (by decide) ?_
              rw [if_pos c68, if_pos (by simp only [i32_lt, Int32.reduceToInt]; omega)] at hz
              exact ih (i + 1) _ 1 _ (by omega) (by omega) (Or.inr ⟨by decide, hz⟩)
  refine x_iconst (v := 0) hκ dX8_filesOf_0 (by decide) ?_
  refine x_istore_n hκ dX8_filesOf_1 (by rw [hL]; decide) rfl ?_
  refine x_iconst (v := 0) hκ dX8_filesOf_2 (by decide) ?_
  refine x_istore hκ dX8_filesOf_3 (by rw [hL]; decide) rfl ?_
  refine x_iconst (v := 0) hκ dX8_filesOf_5 (by decide) ?_
  refine x_istore hκ dX8_filesOf_6 (by rw [hL]; decide) rfl ?_
  exact loop (q.2.length + 1) 0 0 0 none (by omega) (by omega) (Or.inl ⟨rfl, by rw [List.drop_zero]⟩)
