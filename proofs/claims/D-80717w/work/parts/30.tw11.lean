theorem wX8_260 : GoodIn lw_all (wsV RX8 260 RX8 yX8_holds (ws_ yX8_holds cX8_holds 6 (some .boolean))) := lw_V q1457 q1459 qs50 q82 q1460
theorem aX8_holds : yX8_holds.cls = RX8 ∧ yX8_holds.cls ≠ "java/lang/invoke/MethodHandle" ∧ yX8_holds.cls ≠ "java/lang/invoke/VarHandle" ∧ (parseMethodDescriptor yX8_holds.desc).map (fun d => d.parameters.length) = some 2 := by decide +kernel
theorem wX8_328 : GoodIn lw_all (wsV RX8 328 RX8 yX8_hasStop (ws_ yX8_hasStop cX8_hasStop 5 (some .boolean))) := lw_V q1593 q1595 qs66 q82 q1596
theorem aX8_hasStop : yX8_hasStop.cls = RX8 ∧ yX8_hasStop.cls ≠ "java/lang/invoke/MethodHandle" ∧ yX8_hasStop.cls ≠ "java/lang/invoke/VarHandle" ∧ (parseMethodDescriptor yX8_hasStop.desc).map (fun d => d.parameters.length) = some 2 := by decide +kernel
theorem wX8_331 : GoodIn lw_all (wsV RX8 331 RX8 yX8_isCase (ws_ yX8_isCase cX8_isCase 8 (some .boolean))) := lw_V q1585 q1587 qs64 q82 q1588
theorem aX8_isCase : yX8_isCase.cls = RX8 ∧ yX8_isCase.cls ≠ "java/lang/invoke/MethodHandle" ∧ yX8_isCase.cls ≠ "java/lang/invoke/VarHandle" ∧ (parseMethodDescriptor yX8_isCase.desc).map (fun d => d.parameters.length) = some 1 := by decide +kernel
theorem wX8_334 : GoodIn lw_all (wsV RX8 334 RX8 yX8_actIn (ws_ yX8_actIn cX8_actIn 6 (some .int))) := lw_V q1589 q1591 qs65 q82 q1592
theorem aX8_actIn : yX8_actIn.cls = RX8 ∧ yX8_actIn.cls ≠ "java/lang/invoke/MethodHandle" ∧ yX8_actIn.cls ≠ "java/lang/invoke/VarHandle" ∧ (parseMethodDescriptor yX8_actIn.desc).map (fun d => d.parameters.length) = some 2 := by decide +kernel
theorem wX8_338 : GoodIn lw_all (wsV RX8 338 RX8 yX8_least (ws_ yX8_least cX8_least 5 (some .int))) := lw_V q1581 q1583 qs63 q82 q1584
theorem aX8_least : yX8_least.cls = RX8 ∧ yX8_least.cls ≠ "java/lang/invoke/MethodHandle" ∧ yX8_least.cls ≠ "java/lang/invoke/VarHandle" ∧ (parseMethodDescriptor yX8_least.desc).map (fun d => d.parameters.length) = some 2 := by decide +kernel
theorem wX8_341 : GoodIn lw_all (wsV RX8 341 RX8 yX8_filesOf (ws_ yX8_filesOf cX8_filesOf 7 (some .int))) := lw_V q1605 q1607 qs67 q82 q1608
theorem aX8_filesOf : yX8_filesOf.cls = RX8 ∧ yX8_filesOf.cls ≠ "java/lang/invoke/MethodHandle" ∧ yX8_filesOf.cls ≠ "java/lang/invoke/VarHandle" ∧ (parseMethodDescriptor yX8_filesOf.desc).map (fun d => d.parameters.length) = some 2 := by decide +kernel
/-! the reference: which rules act in a case; the least case -/
/-- rules that act, as bits (a relation: hv is no Bool) -/
def ActR (τ : Int32 → Prop) : Rl → Nat → Int32 → Int32 → Prop
  | [], _, t, z => z = t
  | q :: R, k, t, z => (hv τ q.1 → (if (10 : Int32) ∈ q.2 then z = t ||| (1 <<< (nI k &&& 31)) else ActR τ R (k + 1) (t ||| (1 <<< (nI k &&& 31))) z)) ∧ (¬ hv τ q.1 → ActR τ R (k + 1) t z)
theorem ActR.uniq {τ : Int32 → Prop} : ∀ (R : Rl) (k : Nat) (t z z' : Int32), ActR τ R k t z → ActR τ R k t z' → z = z'
  | [], _, _, _, _, h, h' => h.trans h'.symm
  | q :: R, k, t, z, z', h, h' => by
    by_cases c : hv τ q.1
    · have h1 := h.1 c
      have h2 := h'.1 c
      by_cases d : (10 : Int32) ∈ q.2
      · rw [if_pos d] at h1 h2
        exact h1.trans h2.symm
      · rw [if_neg d] at h1 h2
        exact ActR.uniq R _ _ z z' h1 h2
    · exact ActR.uniq R _ _ z z' (h.2 c) (h'.2 c)
theorem rf_congr {f g : Nat → Int32} {c : Int32} : ∀ n : Nat, (∀ j, j < n → f j = g j) → rf f c n = rf g c n
  | 0, _ => rfl
  | n + 1, h => by rw [rf, rf, rf_congr n (fun j hj => h j (by omega)), h n (by omega)]
/-- an atom's place -/
def pos (a : List Int32) (x : Int32) : Nat := rf (fun i => a.getD i 0) x a.length
theorem pos_of {a : List Int32} {g : Nat → Int32} (h : AL g 0 a) (x : Int32) : rf g x a.length = pos a x := by
  refine rf_congr _ fun j hj => ?_
  have := h j hj
  rw [Nat.zero_add] at this
  rw [List.getD_eq_getElem?_getD, this]
  rfl
/-- truths by a case -/
def tc (a : List Int32) (c : Int32) (x : Int32) : Prop := (c >>> (nI (pos a x) &&& 31)) &&& 1 = 1
theorem mX8_actIn {E : gE} {θ : TA} (hθ : tOk θ) {σ : TS} {b : Nat} (hb : b < 3) {R : Rl} (hR : RV σ b R) {a : List Int32} (ha : AL (σ.2 59) 0 a) (h60 : σ.1 60 = nI a.length) (hl : a.length ≤ 180) {c : Int32} : TMi E θ σ yX8_actIn cX8_actIn 6 .int 3 [.int (nI b), .int c] (fun z σ' => ActR (tc a c) R 0 0 z ∧ ∃ g : Nat → Int32, σ' = tF (tS (tS σ 21 1) 22 c) 20 g) := by
  refine TMi.of (by decide) (Nat.le_of_ble_eq_true rfl) ?_
  rintro κ rfl hL hκ hr
  have e1 := hR.1
  have hl6 := hR.2.1
  have loop : ∀ (m r : Nat) (t z : Int32) (g : Nat → Int32), r ≤ R.length → R.length - r < m → ((z = 0 ∧ ∀ y, ActR (tc a c) (R.drop r) r t y → ActR (tc a c) R 0 0 y) ∨ (¬ z = 0 ∧ ActR (tc a c) R 0 0 t)) → X κ (tG (kE κ) θ (tF (tS (tS σ 21 1) 22 c) 20 g)) 0 0 18 [some (.ref θ.1), some (.int (nI b)), some (.int c), some (.int t), some (.int z), some (.int (nI r))] [] := by
    intro m
    induction m with
    | zero => intro r t z g h1 h2; exact absurd h2 (Nat.not_lt_zero _)
    | succ m ih =>
      intro r t z g hr9 hm hz
      have hPe : Pe σ (tF (tS (tS σ 21 1) 22 c) 20 g) := (((Pe.rf σ).S rfl 1).S rfl c).F rfl g
      have hT : Tells (tF (tS (tS σ 21 1) 22 c) 20 g) (tc a c) := Or.inl ⟨rfl, a.length, h60, hl, fun x => by unfold tc; rw [← pos_of ha x]; exact Iff.rfl⟩
      have dr : ∀ h : r < R.length, R.drop r = R[r] :: R.drop (r + 1) := fun h => List.drop_eq_getElem_cons h
      refine x_iload hκ dX8_actIn_18 rfl ?_
      refine x_aload_n hκ dX8_actIn_20 rfl ?_
      refine t_getA hκ fl8_2 (by decide) (by decide) rfl dX8_actIn_21 ?_
      refine x_iload_n hκ dX8_actIn_24 rfl ?_
      refine t_iald (n := 3) hκ hθ (by decide) rfl rfl (by first | ((with_reducible refine vp_in_nI ?_ ?_) <;> omega) | exact i32_in (by omega) (by omega) | exact i32_in' (by simp only [Int32.toInt_add, Int32.toInt_mul, Int32.toInt_sub, Int32.reduceToInt, Int.bmod_add_bmod, Int.bmod_sub_bmod, Int.add_bmod_bmod, Int.sub_bmod_bmod, Int.bmod_mul_bmod, Int.mul_bmod_bmod]; exact i32_bm (by omega) (by omega)) (by omega) (by omega) | exact i32_in (by decide) (by decide)) (by (try simp (disch := omega) only [tS_1, tS_2, tA_1, tA_2, tF_1, tF_2, xl_0, xl_1, xl_2, Nat.reduceEqDiff, ↓reduceIte, nI_add, nI_1, nm_2, nm_3, nm_4, nm_6, nm_7, nm_8, nm_12, nm_16, nm_24, nm_40, nm_180, nm_300, nm_10210, na_0, na_2, na_3, na_4, na_5, na_6, na_7, na_8, nm_p, nm_m, nI_clamp, e1]); exact rfl) dX8_actIn_25 ?_
      refine x_icmp_ge (tgt := 66) hκ dX8_actIn_26 (by decide) (fun c26 => ?_) (fun c26 => ?_)
      · -- X8_actIn 26T
        have i26 := c26
        simp (disch := omega) only [i32_lt, i32_le, i32_eq, Int32.reduceToInt, nI_toInt] at i26
        refine x_iload_n hκ dX8_actIn_66 rfl ?_
        refine t_reti hκ hr rfl dX8_actIn_67 ?_
        obtain rfl : r = R.length := by omega
        refine ⟨?_, g, rfl⟩
        rcases hz with z1 | z1
        · exact z1.2 t (by rw [List.drop_length]; rfl)
        · exact z1.2
      · -- X8_actIn 26F
        have i26 := c26
        simp (disch := omega) only [i32_lt, i32_le, i32_eq, Int32.reduceToInt, nI_toInt] at i26
        refine x_iload hκ dX8_actIn_29 rfl ?_
        refine x_if_ne (tgt := 66) hκ dX8_actIn_31 (by decide) (fun c31 => ?_) (fun c31 => ?_)
        · -- X8_actIn 31T
          have i31 := c31
          simp (disch := omega) only [i32_lt, i32_le, i32_eq, Int32.reduceToInt, nI_toInt] at i31
          refine x_iload_n hκ dX8_actIn_66 rfl ?_
          refine t_reti hκ hr rfl dX8_actIn_67 ?_
          refine ⟨?_, g, rfl⟩
          rcases hz with z1 | z1
          · exact absurd z1.1 c31
          · exact z1.2
        · -- X8_actIn 31F
          have i31 := c31
          simp (disch := omega) only [i32_lt, i32_le, i32_eq, Int32.reduceToInt, nI_toInt] at i31
          have hrl : r < R.length := by omega
          have hq : R[r]? = some R[r] := List.getElem?_eq_getElem hrl
          have hz : ∀ y, ActR (tc a c) (R.drop r) r t y → ActR (tc a c) R 0 0 y := by rcases hz with z1 | z1; exact z1.2; exact absurd c31 z1.1
          rw [dr hrl] at hz
          refine x_aload_n hκ dX8_actIn_34 rfl ?_
          refine x_iload_n hκ dX8_actIn_35 rfl ?_
          refine x_iload hκ dX8_actIn_36 rfl ?_
          refine t_calli hκ (mX8_holds hθ hb (hPe.RV hR) hq hT) (by omega) (by decide) wX8_260 aX8_holds rfl (Nat.le_of_ble_eq_true rfl) dX8_actIn_38 (fun r38 σ38 h38 => ?_)
          obtain ⟨h38, g2, rfl⟩ := h38
          refine x_if_eq (tgt := 60) hκ dX8_actIn_41 (by decide) (fun c41 => ?_) (fun c41 => ?_)
          · -- X8_actIn 41T
            have i41 := h38.f c41
            try simp only [Int32.reduceToInt] at i41
            refine x_iincN (y := 1) hκ dX8_actIn_60 (by decide) rfl (by rw [hL]; decide) rfl (by (try simp (disch := omega) only [tS_1, tS_2, tA_1, tA_2, tF_1, tF_2, xl_0, xl_1, xl_2, Nat.reduceEqDiff, ↓reduceIte, nI_add, nI_1, nm_2, nm_3, nm_4, nm_6, nm_7, nm_8, nm_12, nm_16, nm_24, nm_40, nm_180, nm_300, nm_10210, na_0, na_2, na_3, na_4, na_5, na_6, na_7, na_8, nm_p, nm_m, nI_clamp, e1]); exact rfl) ?_
            refine x_goto (tgt := 18) hκ dX8_actIn_63 (by decide) ?_
            have e55 : tF (tF (tS (tS σ 21 1) 22 c) 20 g) 20 g2 = tF (tS (tS σ 21 1) 22 c) 20 g2 := by unfold tF; refine Prod.ext rfl ?_; funext j; by_cases hj : j = 20 <;> simp [hj]
            rw [e55]
            exact ih (r + 1) t z g2 (by omega) (by omega) (Or.inl ⟨c31, fun y hy => hz y ⟨fun w => absurd w i41, fun _ => hy⟩⟩)
          · -- X8_actIn 41F
            have i41 := h38.t c41
            try simp only [Int32.reduceToInt] at i41
            have e55 : tF (tF (tS (tS σ 21 1) 22 c) 20 g) 20 g2 = tF (tS (tS σ 21 1) 22 c) 20 g2 := by unfold tF; refine Prod.ext rfl ?_; funext j; by_cases hj : j = 20 <;> simp [hj]
            rw [e55]
            refine x_iload_n hκ dX8_actIn_44 rfl ?_
            refine x_iconst (v := 1) hκ dX8_actIn_45 (by decide) ?_
            refine x_iload hκ dX8_actIn_46 rfl ?_
            refine x_ishl hκ dX8_actIn_48 ?_
            refine x_ior hκ dX8_actIn_49 ?_
            refine x_istore_n hκ dX8_actIn_50 (by rw [hL]; decide) rfl ?_
            refine x_aload_n hκ dX8_actIn_51 rfl ?_
            refine x_iload_n hκ dX8_actIn_52 rfl ?_
            refine x_iload hκ dX8_actIn_53 rfl ?_
            refine t_callR hκ (mX8_hasStop hθ hb (((((Pe.rf σ).S rfl 1).S rfl c).F rfl g2).RV hR) hq) (by omega) (by decide) wX8_328 aX8_hasStop rfl (Nat.le_of_ble_eq_true rfl) dX8_actIn_55 (fun r55 h55 => ?_)
            refine x_istore hκ dX8_actIn_58 (by rw [hL]; decide) rfl ?_
            refine x_iincN (y := 1) hκ dX8_actIn_60 (by decide) rfl (by rw [hL]; decide) rfl (by (try simp (disch := omega) only [tS_1, tS_2, tA_1, tA_2, tF_1, tF_2, xl_0, xl_1, xl_2, Nat.reduceEqDiff, ↓reduceIte, nI_add, nI_1, nm_2, nm_3, nm_4, nm_6, nm_7, nm_8, nm_12, nm_16, nm_24, nm_40, nm_180, nm_300, nm_10210, na_0, na_2, na_3, na_4, na_5, na_6, na_7, na_8, nm_p, nm_m, nI_clamp, e1]); exact rfl) ?_
            refine x_goto (tgt := 18) hκ dX8_actIn_63 (by decide) ?_
            by_cases hst : (10 : Int32) ∈ R[r].2
            · exact ih (r + 1) _ r55 g2 (by omega) (by omega) (Or.inr ⟨fun w => h55.f w hst, hz _ ⟨fun _ => by rw [if_pos hst], fun w => absurd i41 w⟩⟩)
            · refine ih (r + 1) _ r55 g2 (by omega) (by omega) (Or.inl ⟨?_, fun y hy => hz y ⟨fun _ => by rw [if_neg hst]; exact hy, fun w => absurd i41 w⟩⟩)
              rcases h55 with w | w
              · exact absurd w.2 hst
              · exact w.1
  refine x_iconst (v := 0) hκ dX8_actIn_0 (by decide) ?_
  refine x_istore_n hκ dX8_actIn_1 (by rw [hL]; decide) rfl ?_
  refine x_iconst (v := 0) hκ dX8_actIn_2 (by decide) ?_
  refine x_istore hκ dX8_actIn_3 (by rw [hL]; decide) rfl ?_
  refine x_aload_n hκ dX8_actIn_5 rfl ?_
  refine x_iconst (v := 1) hκ dX8_actIn_6 (by decide) ?_
  refine t_putZ hκ fl8_21 (by decide) (by decide) rfl rfl rfl (by first | exact Or.inl rfl | exact Or.inr rfl | assumption) dX8_actIn_7 ?_
  refine x_aload_n hκ dX8_actIn_10 rfl ?_
  refine x_iload_n hκ dX8_actIn_11 rfl ?_
  refine t_put hκ fl8_22 (by decide) (by decide) rfl rfl rfl dX8_actIn_12 ?_
  refine x_iconst (v := 0) hκ dX8_actIn_15 (by decide) ?_
  refine x_istore hκ dX8_actIn_16 (by rw [hL]; decide) rfl ?_
  have q := loop (R.length + 1) 0 0 0 (σ.2 20) (by omega) (by omega) (Or.inl ⟨rfl, fun y hy => by rw [List.drop_zero] at hy; exact hy⟩)
  have q2 := tF_self (tS (tS σ 21 1) 22 c) 20
  rw [← q2]
  exact q
/-- a case is good for the rules wanted -/
def goodC (R : Rl) (a : List Int32) (w : Int32) (c : Nat) : Prop := canC a (nI c) ∧ ∃ z : Int32, ActR (tc a (nI c)) R 0 0 z ∧ (if w = 0 then z = 0 else z &&& w = w)
/-- the least good case -/
def LeastR (R : Rl) (w z : Int32) : Prop := if 10 < (gth (allC R) []).length then z = -3 else (∃ c : Nat, c < 2 ^ (gth (allC R) []).length ∧ goodC R (gth (allC R) []) w c ∧ (∀ d, d < c → ¬ goodC R (gth (allC R) []) w d) ∧ z = nI c) ∨ ((∀ c, c < 2 ^ (gth (allC R) []).length → ¬ goodC R (gth (allC R) []) w c) ∧ z = -4)
theorem shl_1 : ∀ n : Fin 11, (1 : Int32) <<< (nI n.val &&& 31) = nI (2 ^ n.val) := by decide
theorem pow_10 : ∀ n : Fin 11, 2 ^ n.val ≤ 1024 := by decide
theorem mX8_least {E : gE} {θ : TA} (hθ : tOk θ) {σ : TS} {b : Nat} (hb : b < 3) {R : Rl} (hR : RV σ b R) {w : Int32} : TMi E θ σ yX8_least cX8_least 5 .int 4 [.int (nI b), .int w] (fun z σ' => LeastR R w z ∧ Pe σ σ') := by
  refine TMi.of (by decide) (Nat.le_of_ble_eq_true rfl) ?_
  rintro κ rfl hL hκ hr
  have hln := gth_len (allC R) []
  have h90 := hR.2.2.1
  have hall := preL_all R
  generalize hga : gth (allC R) [] = a at hln
  rw [List.length_nil] at hln
  have loop : (a.length ≤ 10) → ∀ (m k : Nat) (σ1 : TS) (o : Option Value), loOk [some (.ref θ.1), some (.int (nI b)), some (.int w), some (.int (nI k)), o] 4 = true → Pe σ σ1 → AL (σ1.2 59) 0 a → σ1.1 60 = nI a.length → k ≤ 2 ^ a.length → 2 ^ a.length - k < m → (∀ d, d < k → ¬ goodC R a w d) → X κ (tG (kE κ) θ σ1) 0 0 19 [some (.ref θ.1), some (.int (nI b)), some (.int w), some (.int (nI k)), o] [] := by
    intro h10 m
    have hs := shl_1 ⟨a.length, by omega⟩
    have hp := pow_10 ⟨a.length, by omega⟩
    simp only at hs hp
    induction m with
    | zero => intro k σ1 o _ _ _ _ h1 h2; exact absurd h2 (Nat.not_lt_zero _)
    | succ m ih =>
      intro k σ1 o hlo hPe hA h60 hk hm hno
      refine x_iload_n hκ dX8_least_19 rfl ?_
      refine x_iconst (v := 1) hκ dX8_least_20 (by decide) ?_
      refine x_aload_n hκ dX8_least_21 rfl ?_
      refine t_get hκ fl8_60 (by decide) (by decide) rfl (by (try simp (disch := omega) only [tS_1, tS_2, tA_1, tA_2, tF_1, tF_2, xl_0, xl_1, xl_2, Nat.reduceEqDiff, ↓reduceIte, nI_add, nI_1, nm_2, nm_3, nm_4, nm_6, nm_7, nm_8, nm_12, nm_16, nm_24, nm_40, nm_180, nm_300, nm_10210, na_0, na_2, na_3, na_4, na_5, na_6, na_7, na_8, nm_p, nm_m, nI_clamp, h60]); exact rfl) dX8_least_22 ?_
      refine x_ishl hκ dX8_least_25 ?_
      rw [hs]
      refine x_icmp_ge (tgt := 73) hκ dX8_least_26 (by decide) (fun c26 => ?_) (fun c26 => ?_)
      · -- X8_least 26T
        have i26 := c26
        simp (disch := omega) only [i32_lt, i32_le, i32_eq, Int32.reduceToInt, nI_toInt] at i26
        refine x_bipush (v := (-4)) hκ dX8_least_73 (by decide) ?_
        refine t_reti hκ hr rfl dX8_least_75 ?_
        refine ⟨?_, hPe⟩
        rw [LeastR, hga, if_neg (by omega)]
        exact Or.inr ⟨fun d hd => hno d (by omega), rfl⟩
      · -- X8_least 26F
        have i26 := c26
        simp (disch := omega) only [i32_lt, i32_le, i32_eq, Int32.reduceToInt, nI_toInt] at i26
        refine x_aload_n hκ dX8_least_29 rfl ?_
        refine x_iload_n hκ dX8_least_30 rfl ?_
        refine t_callR hκ (mX8_isCase hθ hA h60 (by omega)) (by omega) (by decide) wX8_331 aX8_isCase rfl (Nat.le_of_ble_eq_true rfl) dX8_least_31 (fun r31 h31 => ?_)
        refine x_if_eq (tgt := 67) hκ dX8_least_34 (by decide) (fun c34 => ?_) (fun c34 => ?_)
        · -- X8_least 34T
          have i34 := h31.f c34
          try simp only [Int32.reduceToInt] at i34
          refine x_iincN (y := 1) hκ dX8_least_67 (by decide) rfl (by rw [hL]; decide) rfl (by (try simp (disch := omega) only [tS_1, tS_2, tA_1, tA_2, tF_1, tF_2, xl_0, xl_1, xl_2, Nat.reduceEqDiff, ↓reduceIte, nI_add, nI_1, nm_2, nm_3, nm_4, nm_6, nm_7, nm_8, nm_12, nm_16, nm_24, nm_40, nm_180, nm_300, nm_10210, na_0, na_2, na_3, na_4, na_5, na_6, na_7, na_8, nm_p, nm_m, nI_clamp, h60]); exact rfl) ?_
          refine x_goto (tgt := 19) hκ dX8_least_70 (by decide) ?_
          exact ih (k + 1) σ1 _ hlo hPe hA h60 (by omega) (by omega) (fun d hd => by
            rcases (by omega : d < k ∨ d = k) with z | z
            · exact hno d z
            · subst z; exact fun y => i34 y.1)
        · -- X8_least 34F
          have i34 := h31.t c34
          try simp only [Int32.reduceToInt] at i34
          refine x_aload_n hκ dX8_least_37 rfl ?_
          refine x_iload_n hκ dX8_least_38 rfl ?_
          refine x_iload_n hκ dX8_least_39 rfl ?_
          refine t_calli hκ (mX8_actIn hθ hb (hPe.RV hR) hA h60 (by omega)) (by omega) (by decide) wX8_334 aX8_actIn rfl (Nat.le_of_ble_eq_true rfl) dX8_least_40 (fun r40 σ40 h40 => ?_)
          obtain ⟨h40, g, rfl⟩ := h40
          have hPe2 : Pe σ (tF (tS (tS σ1 21 1) 22 (nI k)) 20 g) := ((hPe.S rfl 1).S rfl _).F rfl g
          refine x_istore hκ dX8_least_43 (by rw [hL]; decide) rfl ?_
          refine x_iload_n hκ dX8_least_45 rfl ?_
          refine x_if_ne (tgt := 57) hκ dX8_least_46 (by decide) (fun c46 => ?_) (fun c46 => ?_)
          · -- X8_least 46T
            have i46 := c46
            simp (disch := omega) only [i32_lt, i32_le, i32_eq, Int32.reduceToInt, nI_toInt] at i46
            refine x_iload hκ dX8_least_57 rfl ?_
            refine x_iload_n hκ dX8_least_59 rfl ?_
            refine x_iand hκ dX8_least_60 ?_
            refine x_iload_n hκ dX8_least_61 rfl ?_
            refine x_icmp_ne (tgt := 67) hκ dX8_least_62 (by decide) (fun c62 => ?_) (fun c62 => ?_)
            · -- X8_least 62T
              have i62 := c62
              simp (disch := omega) only [i32_lt, i32_le, i32_eq, Int32.reduceToInt, nI_toInt] at i62
              refine x_iincN (y := 1) hκ dX8_least_67 (by decide) rfl (by rw [hL]; decide) rfl (by (try simp (disch := omega) only [tS_1, tS_2, tA_1, tA_2, tF_1, tF_2, xl_0, xl_1, xl_2, Nat.reduceEqDiff, ↓reduceIte, nI_add, nI_1, nm_2, nm_3, nm_4, nm_6, nm_7, nm_8, nm_12, nm_16, nm_24, nm_40, nm_180, nm_300, nm_10210, na_0, na_2, na_3, na_4, na_5, na_6, na_7, na_8, nm_p, nm_m, nI_clamp, h60]); exact rfl) ?_
              refine x_goto (tgt := 19) hκ dX8_least_70 (by decide) ?_
              exact ih (k + 1) _ _ rfl hPe2 hA h60 (by omega) (by omega) (fun d hd => by
                rcases (by omega : d < k ∨ d = k) with z | z
                · exact hno d z
                · subst z
                  rintro ⟨-, y, y1, y2⟩
                  rw [if_neg c46, ActR.uniq _ _ _ _ _ y1 h40] at y2
                  exact c62 y2)
            · -- X8_least 62F
              have i62 := c62
              simp (disch := omega) only [i32_lt, i32_le, i32_eq, Int32.reduceToInt, nI_toInt] at i62
              refine x_iload_n hκ dX8_least_65 rfl ?_
              refine t_reti hκ hr rfl dX8_least_66 ?_
              refine ⟨?_, hPe2⟩
              rw [LeastR, hga, if_neg (by omega)]
              exact Or.inl ⟨k, by omega, ⟨i34, r40, h40, by rw [if_neg c46]; exact c62⟩, hno, rfl⟩
          · -- X8_least 46F
            have i46 := c46
            simp (disch := omega) only [i32_lt, i32_le, i32_eq, Int32.reduceToInt, nI_toInt] at i46
            refine x_iload hκ dX8_least_49 rfl ?_
            refine x_if_ne (tgt := 67) hκ dX8_least_51 (by decide) (fun c51 => ?_) (fun c51 => ?_)
            · -- X8_least 51T
              have i51 := c51
              simp (disch := omega) only [i32_lt, i32_le, i32_eq, Int32.reduceToInt, nI_toInt] at i51
              refine x_iincN (y := 1) hκ dX8_least_67 (by decide) rfl (by rw [hL]; decide) rfl (by (try simp (disch := omega) only [tS_1, tS_2, tA_1, tA_2, tF_1, tF_2, xl_0, xl_1, xl_2, Nat.reduceEqDiff, ↓reduceIte, nI_add, nI_1, nm_2, nm_3, nm_4, nm_6, nm_7, nm_8, nm_12, nm_16, nm_24, nm_40, nm_180, nm_300, nm_10210, na_0, na_2, na_3, na_4, na_5, na_6, na_7, na_8, nm_p, nm_m, nI_clamp, h60]); exact rfl) ?_
              refine x_goto (tgt := 19) hκ dX8_least_70 (by decide) ?_
              exact ih (k + 1) _ _ rfl hPe2 hA h60 (by omega) (by omega) (fun d hd => by
                rcases (by omega : d < k ∨ d = k) with z | z
                · exact hno d z
                · subst z
                  rintro ⟨-, y, y1, y2⟩
                  rw [if_pos c46, ActR.uniq _ _ _ _ _ y1 h40] at y2
                  exact c51 y2)
            · -- X8_least 51F
              have i51 := c51
              simp (disch := omega) only [i32_lt, i32_le, i32_eq, Int32.reduceToInt, nI_toInt] at i51
              refine x_goto (tgt := 65) hκ dX8_least_54 (by decide) ?_
              refine x_iload_n hκ dX8_least_65 rfl ?_
              refine t_reti hκ hr rfl dX8_least_66 ?_
              refine ⟨?_, hPe2⟩
              rw [LeastR, hga, if_neg (by omega)]
              exact Or.inl ⟨k, by omega, ⟨i34, r40, h40, by rw [if_pos c46]; exact c51⟩, hno, rfl⟩
  refine x_aload_n hκ dX8_least_0 rfl ?_
  refine x_iload_n hκ dX8_least_1 rfl ?_
  refine t_callv hκ (mX8_gather hθ hb hR) (by omega) (by decide) wX8_325 aX8_gather rfl (Nat.le_of_ble_eq_true rfl) dX8_least_2 (fun σ2 h2 => ?_)
  obtain ⟨g, rfl, hg⟩ := h2
  rw [hga] at hg ⊢
  have hPe : Pe σ (tS (tF σ 59 g) 60 (nI a.length)) := ((Pe.rf σ).F rfl g).S rfl _
  refine x_aload_n hκ dX8_least_5 rfl ?_
  refine t_get hκ fl8_60 (by decide) (by decide) rfl (by (try simp (disch := omega) only [tS_1, tS_2, tA_1, tA_2, tF_1, tF_2, xl_0, xl_1, xl_2, Nat.reduceEqDiff, ↓reduceIte, nI_add, nI_1, nm_2, nm_3, nm_4, nm_6, nm_7, nm_8, nm_12, nm_16, nm_24, nm_40, nm_180, nm_300, nm_10210, na_0, na_2, na_3, na_4, na_5, na_6, na_7, na_8, nm_p, nm_m, nI_clamp]); exact rfl) dX8_least_6 ?_
  refine x_bipush (v := 10) hκ dX8_least_9 (by decide) ?_
  refine x_icmp_le (tgt := 17) hκ dX8_least_11 (by decide) (fun c11 => ?_) (fun c11 => ?_)
  · -- X8_least 11T
    have i11 := c11
    simp (disch := omega) only [i32_lt, i32_le, i32_eq, Int32.reduceToInt, nI_toInt] at i11
    refine x_iconst (v := 0) hκ dX8_least_17 (by decide) ?_
    refine x_istore_n hκ dX8_least_18 (by rw [hL]; decide) rfl ?_
    exact loop (by omega) (2 ^ a.length + 1) 0 _ none rfl hPe hg rfl (Nat.zero_le _) (Nat.lt_succ_self _) (fun d hd => absurd hd (Nat.not_lt_zero _))
  · -- X8_least 11F
    have i11 := c11
    simp (disch := omega) only [i32_lt, i32_le, i32_eq, Int32.reduceToInt, nI_toInt] at i11
    refine x_bipush (v := (-3)) hκ dX8_least_14 (by decide) ?_
    refine t_reti hκ hr rfl dX8_least_16 ?_
    refine ⟨?_, hPe⟩
    rw [LeastR, hga, if_pos (by omega)]
theorem mX8_shown {E : gE} {θ : TA} (hθ : tOk θ) {σ : TS} {R : Nat → Rl} (hR : ∀ k, k < 3 → RV σ k (R k)) {b k : Int32} : TMi E θ σ yX8_shown cX8_shown 3 .int 5 [.int b, .int k] (fun z σ' => (if (0 ≤ b.toInt ∧ b.toInt ≤ 2) ∧ 0 ≤ k.toInt ∧ k.toInt < (R (Int32.toNatClampNeg b)).length then LeastR (R (Int32.toNatClampNeg b)) (1 <<< (k &&& 31)) z else z = -1) ∧ Pe σ σ') := by
  refine TMi.of (by decide) (Nat.le_of_ble_eq_true rfl) ?_
  rintro κ rfl hL hκ hr
  refine x_iload_n hκ dX8_shown_0 rfl ?_
  refine x_callSi hκ mX8_isBox (by omega) (by decide) wX8_186 aX8_isBox rfl (Nat.le_of_ble_eq_true rfl) dX8_shown_1 (fun r1 h1 => ?_)
  refine x_if_eq (tgt := 34) hκ dX8_shown_4 (by decide) (fun c4 => ?_) (fun c4 => ?_)
  · -- X8_shown 4T
    have i4 := h1.f c4
    try simp only [Int32.reduceToInt] at i4
    refine x_iconst (v := (-1)) hκ dX8_shown_34 (by decide) ?_
    refine t_reti hκ hr rfl dX8_shown_35 ?_
    rw [if_neg (by omega)]
    exact ⟨rfl, Pe.rf σ⟩
  · -- X8_shown 4F
    have i4 := h1.t c4
    try simp only [Int32.reduceToInt] at i4
    obtain ⟨n, hn, rfl⟩ := i32_nI3 i4
    have q1 := nI_clamp (n := n) (by omega)
    have e1 := (hR n hn).1
    have e2 := (hR n hn).2.1
    have e3 : (nI (R n).length - 1).toInt = (R n).length - 1 := by
      rw [i32_sub, nI_toInt (by omega)] <;> simp only [Int32.reduceToInt, nI_toInt (n := (R n).length) (by omega)] <;> omega
    refine x_iload_n hκ dX8_shown_7 rfl ?_
    refine x_iconst (v := 0) hκ dX8_shown_8 (by decide) ?_
    refine x_aload_n hκ dX8_shown_9 rfl ?_
    refine t_getA hκ fl8_2 (by decide) (by decide) rfl dX8_shown_10 ?_
    refine x_iload_n hκ dX8_shown_13 rfl ?_
    refine t_iald (n := 3) hκ hθ (by decide) rfl rfl (by first | ((with_reducible refine vp_in_nI ?_ ?_) <;> omega) | exact i32_in (by omega) (by omega) | exact i32_in' (by simp only [Int32.toInt_add, Int32.toInt_mul, Int32.toInt_sub, Int32.reduceToInt, Int.bmod_add_bmod, Int.bmod_sub_bmod, Int.add_bmod_bmod, Int.sub_bmod_bmod, Int.bmod_mul_bmod, Int.mul_bmod_bmod]; exact i32_bm (by omega) (by omega)) (by omega) (by omega) | exact i32_in (by decide) (by decide)) (by (try simp (disch := omega) only [tS_1, tS_2, tA_1, tA_2, tF_1, tF_2, xl_0, xl_1, xl_2, Nat.reduceEqDiff, ↓reduceIte, nI_add, nI_1, nm_2, nm_3, nm_4, nm_6, nm_7, nm_8, nm_12, nm_16, nm_24, nm_40, nm_180, nm_300, nm_10210, na_0, na_2, na_3, na_4, na_5, na_6, na_7, na_8, nm_p, nm_m, nI_clamp, q1, e1]); exact rfl) dX8_shown_14 ?_
    refine x_iconst (v := 1) hκ dX8_shown_15 (by decide) ?_
    refine x_isub hκ dX8_shown_16 ?_
    refine x_callSi hκ mX8_in (by omega) (by decide) wX8_122 aX8_in rfl (Nat.le_of_ble_eq_true rfl) dX8_shown_17 (fun r17 h17 => ?_)
    rw [e3] at h17
    refine x_if_eq (tgt := 34) hκ dX8_shown_20 (by decide) (fun c20 => ?_) (fun c20 => ?_)
    · -- X8_shown 20T
      have i20 := h17.f c20
      try simp only [Int32.reduceToInt] at i20
      refine x_iconst (v := (-1)) hκ dX8_shown_34 (by decide) ?_
      refine t_reti hκ hr rfl dX8_shown_35 ?_
      rw [q1, if_neg (by omega)]
      exact ⟨rfl, Pe.rf σ⟩
    · -- X8_shown 20F
      have i20 := h17.t c20
      try simp only [Int32.reduceToInt] at i20
      refine x_aload_n hκ dX8_shown_23 rfl ?_
      refine x_iload_n hκ dX8_shown_24 rfl ?_
      refine x_iconst (v := 1) hκ dX8_shown_25 (by decide) ?_
      refine x_iload_n hκ dX8_shown_26 rfl ?_
      refine x_ishl hκ dX8_shown_27 ?_
      refine t_calli hκ (mX8_least hθ hn (hR n hn)) (by omega) (by decide) wX8_338 aX8_least rfl (Nat.le_of_ble_eq_true rfl) dX8_shown_28 (fun r28 σ28 h28 => ?_)
      refine x_goto (tgt := 35) hκ dX8_shown_31 (by decide) ?_
      refine t_reti hκ hr rfl dX8_shown_35 ?_
      rw [q1, if_pos (by omega)]
      exact h28
theorem mX8_bare {E : gE} {θ : TA} (hθ : tOk θ) {σ : TS} {R : Nat → Rl} (hR : ∀ k, k < 3 → RV σ k (R k)) {b : Int32} : TMi E θ σ yX8_bare cX8_bare 2 .int 5 [.int b] (fun z σ' => (if (0 ≤ b.toInt ∧ b.toInt ≤ 2) ∧ 0 < (R (Int32.toNatClampNeg b)).length then LeastR (R (Int32.toNatClampNeg b)) 0 z else z = -1) ∧ Pe σ σ') := by
  refine TMi.of (by decide) (Nat.le_of_ble_eq_true rfl) ?_
  rintro κ rfl hL hκ hr
  refine x_iload_n hκ dX8_bare_0 rfl ?_
  refine x_callSi hκ mX8_isBox (by omega) (by decide) wX8_186 aX8_isBox rfl (Nat.le_of_ble_eq_true rfl) dX8_bare_1 (fun r1 h1 => ?_)
  refine x_if_eq (tgt := 25) hκ dX8_bare_4 (by decide) (fun c4 => ?_) (fun c4 => ?_)
  · -- X8_bare 4T
    have i4 := h1.f c4
    try simp only [Int32.reduceToInt] at i4
    refine x_iconst (v := (-1)) hκ dX8_bare_25 (by decide) ?_
    refine t_reti hκ hr rfl dX8_bare_26 ?_
    rw [if_neg (by omega)]
    exact ⟨rfl, Pe.rf σ⟩
  · -- X8_bare 4F
    have i4 := h1.t c4
    try simp only [Int32.reduceToInt] at i4
    obtain ⟨n, hn, rfl⟩ := i32_nI3 i4
    have q1 := nI_clamp (n := n) (by omega)
    have e1 := (hR n hn).1
    have e2 := (hR n hn).2.1
    refine x_aload_n hκ dX8_bare_7 rfl ?_
    refine t_getA hκ fl8_2 (by decide) (by decide) rfl dX8_bare_8 ?_
    refine x_iload_n hκ dX8_bare_11 rfl ?_
    refine t_iald (n := 3) hκ hθ (by decide) rfl rfl (by first | ((with_reducible refine vp_in_nI ?_ ?_) <;> omega) | exact i32_in (by omega) (by omega) | exact i32_in' (by simp only [Int32.toInt_add, Int32.toInt_mul, Int32.toInt_sub, Int32.reduceToInt, Int.bmod_add_bmod, Int.bmod_sub_bmod, Int.add_bmod_bmod, Int.sub_bmod_bmod, Int.bmod_mul_bmod, Int.mul_bmod_bmod]; exact i32_bm (by omega) (by omega)) (by omega) (by omega) | exact i32_in (by decide) (by decide)) (by (try simp (disch := omega) only [tS_1, tS_2, tA_1, tA_2, tF_1, tF_2, xl_0, xl_1, xl_2, Nat.reduceEqDiff, ↓reduceIte, nI_add, nI_1, nm_2, nm_3, nm_4, nm_6, nm_7, nm_8, nm_12, nm_16, nm_24, nm_40, nm_180, nm_300, nm_10210, na_0, na_2, na_3, na_4, na_5, na_6, na_7, na_8, nm_p, nm_m, nI_clamp, q1, e1]); exact rfl) dX8_bare_12 ?_
    refine x_if_le (tgt := 25) hκ dX8_bare_13 (by decide) (fun c13 => ?_) (fun c13 => ?_)
    · -- X8_bare 13T
      have i13 := c13
      simp (disch := omega) only [i32_lt, i32_le, i32_eq, Int32.reduceToInt, nI_toInt] at i13
      refine x_iconst (v := (-1)) hκ dX8_bare_25 (by decide) ?_
      refine t_reti hκ hr rfl dX8_bare_26 ?_
      rw [q1, if_neg (by omega)]
      exact ⟨rfl, Pe.rf σ⟩
    · -- X8_bare 13F
      have i13 := c13
      simp (disch := omega) only [i32_lt, i32_le, i32_eq, Int32.reduceToInt, nI_toInt] at i13
      refine x_aload_n hκ dX8_bare_16 rfl ?_
      refine x_iload_n hκ dX8_bare_17 rfl ?_
      refine x_iconst (v := 0) hκ dX8_bare_18 (by decide) ?_
      refine t_calli hκ (mX8_least hθ hn (hR n hn)) (by omega) (by decide) wX8_338 aX8_least rfl (Nat.le_of_ble_eq_true rfl) dX8_bare_19 (fun r19 σ19 h19 => ?_)
      refine x_goto (tgt := 26) hκ dX8_bare_22 (by decide) ?_
      refine t_reti hκ hr rfl dX8_bare_26 ?_
      rw [q1, if_pos (by omega)]
      exact h19
theorem mX8_quarrel {E : gE} {θ : TA} (hθ : tOk θ) {σ : TS} {R : Nat → Rl} (hR : ∀ k, k < 3 → RV σ k (R k)) {b k m : Int32} : TMi E θ σ yX8_quarrel cX8_quarrel 7 .int 5 [.int b, .int k, .int m] (fun z σ' => (if (0 ≤ b.toInt ∧ b.toInt ≤ 2) ∧ (1 ≤ m.toInt ∧ m.toInt < (R (Int32.toNatClampNeg b)).length) ∧ 0 ≤ k.toInt ∧ k.toInt < m.toInt then (∃ (y : Int32) (p q : List Int32 × List Int32), (R (Int32.toNatClampNeg b))[Int32.toNatClampNeg k]? = some p ∧ (R (Int32.toNatClampNeg b))[Int32.toNatClampNeg m]? = some q ∧ LeastR (R (Int32.toNatClampNeg b)) ((1 <<< (k &&& 31)) ||| (1 <<< (m &&& 31))) y ∧ z = if ¬ y = -3 ∧ (fo p.2 0 = 0 ∨ fo q.2 0 = 0 ∨ fo p.2 0 = fo q.2 0) then -4 else y) else z = -1) ∧ Pe σ σ') := by
  refine TMi.of (by decide) (Nat.le_of_ble_eq_true rfl) ?_
  rintro κ rfl hL hκ hr
  refine x_iload_n hκ dX8_quarrel_0 rfl ?_
  refine x_callSi hκ mX8_isBox (by omega) (by decide) wX8_186 aX8_isBox rfl (Nat.le_of_ble_eq_true rfl) dX8_quarrel_1 (fun r1 h1 => ?_)
  refine x_if_eq (tgt := 34) hκ dX8_quarrel_4 (by decide) (fun c4 => ?_) (fun c4 => ?_)
  · -- X8_quarrel 4T
    have i4 := h1.f c4
    try simp only [Int32.reduceToInt] at i4
    refine x_iconst (v := (-1)) hκ dX8_quarrel_34 (by decide) ?_
    refine t_reti hκ hr rfl dX8_quarrel_35 ?_
    rw [if_neg (by omega)]
    exact ⟨rfl, Pe.rf σ⟩
  · -- X8_quarrel 4F
    have i4 := h1.t c4
    try simp only [Int32.reduceToInt] at i4
    obtain ⟨n, hn, rfl⟩ := i32_nI3 i4
    have q1 := nI_clamp (n := n) (by omega)
    have e1 := (hR n hn).1
    have e2 := (hR n hn).2.1
    have e3 : (nI (R n).length - 1).toInt = (R n).length - 1 := by
      rw [i32_sub, nI_toInt (by omega)] <;> simp only [Int32.reduceToInt, nI_toInt (n := (R n).length) (by omega)] <;> omega
    refine x_iload_n hκ dX8_quarrel_7 rfl ?_
    refine x_iconst (v := 1) hκ dX8_quarrel_8 (by decide) ?_
    refine x_aload_n hκ dX8_quarrel_9 rfl ?_
    refine t_getA hκ fl8_2 (by decide) (by decide) rfl dX8_quarrel_10 ?_
    refine x_iload_n hκ dX8_quarrel_13 rfl ?_
    refine t_iald (n := 3) hκ hθ (by decide) rfl rfl (by first | ((with_reducible refine vp_in_nI ?_ ?_) <;> omega) | exact i32_in (by omega) (by omega) | exact i32_in' (by simp only [Int32.toInt_add, Int32.toInt_mul, Int32.toInt_sub, Int32.reduceToInt, Int.bmod_add_bmod, Int.bmod_sub_bmod, Int.add_bmod_bmod, Int.sub_bmod_bmod, Int.bmod_mul_bmod, Int.mul_bmod_bmod]; exact i32_bm (by omega) (by omega)) (by omega) (by omega) | exact i32_in (by decide) (by decide)) (by (try simp (disch := omega) only [tS_1, tS_2, tA_1, tA_2, tF_1, tF_2, xl_0, xl_1, xl_2, Nat.reduceEqDiff, ↓reduceIte, nI_add, nI_1, nm_2, nm_3, nm_4, nm_6, nm_7, nm_8, nm_12, nm_16, nm_24, nm_40, nm_180, nm_300, nm_10210, na_0, na_2, na_3, na_4, na_5, na_6, na_7, na_8, nm_p, nm_m, nI_clamp, q1, e1]); exact rfl) dX8_quarrel_14 ?_
    refine x_iconst (v := 1) hκ dX8_quarrel_15 (by decide) ?_
    refine x_isub hκ dX8_quarrel_16 ?_
    refine x_callSi hκ mX8_in (by omega) (by decide) wX8_122 aX8_in rfl (Nat.le_of_ble_eq_true rfl) dX8_quarrel_17 (fun r17 h17 => ?_)
    rw [e3] at h17
    refine x_if_eq (tgt := 34) hκ dX8_quarrel_20 (by decide) (fun c20 => ?_) (fun c20 => ?_)
    · -- X8_quarrel 20T
      have i20 := h17.f c20
      try simp only [Int32.reduceToInt] at i20
      refine x_iconst (v := (-1)) hκ dX8_quarrel_34 (by decide) ?_
      refine t_reti hκ hr rfl dX8_quarrel_35 ?_
      rw [q1, if_neg (by omega)]
      exact ⟨rfl, Pe.rf σ⟩
    · -- X8_quarrel 20F
      have i20 := h17.t c20
      try simp only [Int32.reduceToInt] at i20
      refine x_iload_n hκ dX8_quarrel_23 rfl ?_
      refine x_iconst (v := 0) hκ dX8_quarrel_24 (by decide) ?_
      refine x_iload_n hκ dX8_quarrel_25 rfl ?_
      refine x_iconst (v := 1) hκ dX8_quarrel_26 (by decide) ?_
      refine x_isub hκ dX8_quarrel_27 ?_
      refine x_callSi hκ mX8_in (by omega) (by decide) wX8_122 aX8_in rfl (Nat.le_of_ble_eq_true rfl) dX8_quarrel_28 (fun r28 h28 => ?_)
      have e4 : (m - 1).toInt = m.toInt - 1 := i32_sub (by simp only [Int32.reduceToInt]; omega) (by simp only [Int32.reduceToInt]; omega)
      rw [e4] at h28
      refine x_if_ne (tgt := 36) hκ dX8_quarrel_31 (by decide) (fun c31 => ?_) (fun c31 => ?_)
      · -- X8_quarrel 31T
        have i31 := h28.t c31
        try simp only [Int32.reduceToInt] at i31
        obtain ⟨k'', hk1, rfl⟩ : ∃ x : Nat, x < 6 ∧ k = nI x := ⟨Int32.toNatClampNeg k, by show k.toInt.toNat < 6; omega, i32_nI (by omega)⟩
        obtain ⟨m'', hm1, rfl⟩ : ∃ x : Nat, x < 6 ∧ m = nI x := ⟨Int32.toNatClampNeg m, by show m.toInt.toNat < 6; omega, i32_nI (by omega)⟩
        have w1 := nI_toInt (n := k'') (by omega)
        have w2 := nI_toInt (n := m'') (by omega)
        have w3 := nI_clamp (n := k'') (by omega)
        have w4 := nI_clamp (n := m'') (by omega)
        have hp : (R n)[k'']? = some ((R n)[k'']'(by omega)) := List.getElem?_eq_getElem _
        have hq : (R n)[m'']? = some ((R n)[m'']'(by omega)) := List.getElem?_eq_getElem _
        refine x_aload_n hκ dX8_quarrel_36 rfl ?_
        refine x_iload_n hκ dX8_quarrel_37 rfl ?_
        refine x_iconst (v := 1) hκ dX8_quarrel_38 (by decide) ?_
        refine x_iload_n hκ dX8_quarrel_39 rfl ?_
        refine x_ishl hκ dX8_quarrel_40 ?_
        refine x_iconst (v := 1) hκ dX8_quarrel_41 (by decide) ?_
        refine x_iload_n hκ dX8_quarrel_42 rfl ?_
        refine x_ishl hκ dX8_quarrel_43 ?_
        refine x_ior hκ dX8_quarrel_44 ?_
        refine t_calli hκ (mX8_least hθ hn (hR n hn)) (by omega) (by decide) wX8_338 aX8_least rfl (Nat.le_of_ble_eq_true rfl) dX8_quarrel_45 (fun r45 σ45 h45 => ?_)
        obtain ⟨h45, hPe⟩ := h45
        refine x_istore hκ dX8_quarrel_48 (by rw [hL]; decide) rfl ?_
        refine x_aload_n hκ dX8_quarrel_50 rfl ?_
        refine x_iload_n hκ dX8_quarrel_51 rfl ?_
        refine x_iload_n hκ dX8_quarrel_52 rfl ?_
        refine t_callR hκ (mX8_filesOf hθ hn (hPe.RV (hR n hn)) hp) (by omega) (by decide) wX8_341 aX8_filesOf rfl (Nat.le_of_ble_eq_true rfl) dX8_quarrel_53 (fun r53 h53 => ?_)
        subst h53
        refine x_istore hκ dX8_quarrel_56 (by rw [hL]; decide) rfl ?_
        refine x_aload_n hκ dX8_quarrel_58 rfl ?_
        refine x_iload_n hκ dX8_quarrel_59 rfl ?_
        refine x_iload_n hκ dX8_quarrel_60 rfl ?_
        refine t_callR hκ (mX8_filesOf hθ hn (hPe.RV (hR n hn)) hq) (by omega) (by decide) wX8_341 aX8_filesOf rfl (Nat.le_of_ble_eq_true rfl) dX8_quarrel_61 (fun r61 h61 => ?_)
        subst h61
        refine x_istore hκ dX8_quarrel_64 (by rw [hL]; decide) rfl ?_
        refine x_iload hκ dX8_quarrel_66 rfl ?_
        refine x_bipush (v := (-3)) hκ dX8_quarrel_68 (by decide) ?_
        refine x_icmp_eq (tgt := 95) hκ dX8_quarrel_70 (by decide) (fun c70 => ?_) (fun c70 => ?_)
        · -- X8_quarrel 70T
          have i70 := c70
          simp (disch := omega) only [i32_lt, i32_le, i32_eq, Int32.reduceToInt, nI_toInt] at i70
          refine x_iload hκ dX8_quarrel_95 rfl ?_
          refine t_reti hκ hr rfl dX8_quarrel_97 ?_
          rw [q1, if_pos (by omega)]
          refine ⟨⟨r45, _, _, by rw [w3]; exact hp, by rw [w4]; exact hq, h45, ?_⟩, hPe⟩
          rw [if_neg (fun z => z.1 c70)]
        · -- X8_quarrel 70F
          have i70 := c70
          simp (disch := omega) only [i32_lt, i32_le, i32_eq, Int32.reduceToInt, nI_toInt] at i70
          refine x_iload hκ dX8_quarrel_73 rfl ?_
          refine x_if_eq (tgt := 90) hκ dX8_quarrel_75 (by decide) (fun c75 => ?_) (fun c75 => ?_)
          · -- X8_quarrel 75T
            have i75 := c75
            simp (disch := omega) only [i32_lt, i32_le, i32_eq, Int32.reduceToInt, nI_toInt] at i75
            refine x_bipush (v := (-4)) hκ dX8_quarrel_90 (by decide) ?_
            refine x_goto (tgt := 97) hκ dX8_quarrel_92 (by decide) ?_
            refine t_reti hκ hr rfl dX8_quarrel_97 ?_
            rw [q1, if_pos (by omega)]
            refine ⟨⟨r45, _, _, by rw [w3]; exact hp, by rw [w4]; exact hq, h45, ?_⟩, hPe⟩
            rw [if_pos ⟨c70, Or.inl c75⟩]
          · -- X8_quarrel 75F
            have i75 := c75
            simp (disch := omega) only [i32_lt, i32_le, i32_eq, Int32.reduceToInt, nI_toInt] at i75
            refine x_iload hκ dX8_quarrel_78 rfl ?_
            refine x_if_eq (tgt := 90) hκ dX8_quarrel_80 (by decide) (fun c80 => ?_) (fun c80 => ?_)
            · -- X8_quarrel 80T
              have i80 := c80
              simp (disch := omega) only [i32_lt, i32_le, i32_eq, Int32.reduceToInt, nI_toInt] at i80
              refine x_bipush (v := (-4)) hκ dX8_quarrel_90 (by decide) ?_
              refine x_goto (tgt := 97) hκ dX8_quarrel_92 (by decide) ?_
              refine t_reti hκ hr rfl dX8_quarrel_97 ?_
              rw [q1, if_pos (by omega)]
              refine ⟨⟨r45, _, _, by rw [w3]; exact hp, by rw [w4]; exact hq, h45, ?_⟩, hPe⟩
              rw [if_pos ⟨c70, Or.inr (Or.inl c80)⟩]
            · -- X8_quarrel 80F
              have i80 := c80
              simp (disch := omega) only [i32_lt, i32_le, i32_eq, Int32.reduceToInt, nI_toInt] at i80
              refine x_iload hκ dX8_quarrel_83 rfl ?_
              refine x_iload hκ dX8_quarrel_85 rfl ?_
              refine x_icmp_ne (tgt := 95) hκ dX8_quarrel_87 (by decide) (fun c87 => ?_) (fun c87 => ?_)
              · -- X8_quarrel 87T
                have i87 := c87
                simp (disch := omega) only [i32_lt, i32_le, i32_eq, Int32.reduceToInt, nI_toInt] at i87
                refine x_iload hκ dX8_quarrel_95 rfl ?_
                refine t_reti hκ hr rfl dX8_quarrel_97 ?_
                rw [q1, if_pos (by omega)]
                refine ⟨⟨r45, _, _, by rw [w3]; exact hp, by rw [w4]; exact hq, h45, ?_⟩, hPe⟩
                rw [if_neg (fun z => by rcases z.2 with y | y | y; exact c75 y; exact c80 y; exact c87 y)]
              · -- X8_quarrel 87F
                have i87 := c87
                simp (disch := omega) only [i32_lt, i32_le, i32_eq, Int32.reduceToInt, nI_toInt] at i87
                refine x_bipush (v := (-4)) hκ dX8_quarrel_90 (by decide) ?_
                refine x_goto (tgt := 97) hκ dX8_quarrel_92 (by decide) ?_
                refine t_reti hκ hr rfl dX8_quarrel_97 ?_
                rw [q1, if_pos (by omega)]
                refine ⟨⟨r45, _, _, by rw [w3]; exact hp, by rw [w4]; exact hq, h45, ?_⟩, hPe⟩
                rw [if_pos ⟨c70, Or.inr (Or.inr c87)⟩]
      · -- X8_quarrel 31F
        have i31 := h28.f c31
        try simp only [Int32.reduceToInt] at i31
        refine x_iconst (v := (-1)) hκ dX8_quarrel_34 (by decide) ?_
        refine t_reti hκ hr rfl dX8_quarrel_35 ?_
        rw [q1, if_neg (by omega)]
        exact ⟨rfl, Pe.rf σ⟩
