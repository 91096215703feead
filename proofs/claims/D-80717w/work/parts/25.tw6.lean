theorem wX8_203 : GoodIn lw_all (wsV RX8 203 RX8 yX8_numberOf (ws_ yX8_numberOf cX8_numberOf 3 (some .int))) := lw_V q1462 q1464 qs51 q82 q1465
theorem aX8_numberOf : yX8_numberOf.cls = RX8 ∧ yX8_numberOf.cls ≠ "java/lang/invoke/MethodHandle" ∧ yX8_numberOf.cls ≠ "java/lang/invoke/VarHandle" ∧ (parseMethodDescriptor yX8_numberOf.desc).map (fun d => d.parameters.length) = some 1 := by decide +kernel
/-! the reference: rules as lists -/
/-- the array holds the list from o on -/
def AL (f : Nat → Int32) (o : Nat) (l : List Int32) : Prop := ∀ i : Nat, i < l.length → l[i]? = some (f (o + i))
theorem AL.drop {f : Nat → Int32} {o : Nat} {l : List Int32} (h : AL f o l) {k : Nat} (hk : k < l.length) : l.drop k = f (o + k) :: l.drop (k + 1) := by
  have h1 := h k hk
  rw [List.drop_eq_getElem_cons hk]
  have h2 : l[k] = f (o + k) := by
    rw [List.getElem?_eq_getElem hk] at h1
    exact Option.some.inj h1
  rw [h2]
theorem AL.at {f : Nat → Int32} {o : Nat} {l : List Int32} (h : AL f o l) {k : Nat} (hk : k < l.length) : f (o + k) ∈ l := List.mem_of_getElem? (h k hk)
theorem AL.nil {f : Nat → Int32} {o : Nat} : AL f o [] := fun i h => absurd h (Nat.not_lt_zero _)
theorem AL.snoc {f : Nat → Int32} {o : Nat} {l : List Int32} (h : AL f o l) (c : Int32) : AL (upd f (o + l.length) c) o (l ++ [c]) := by
  intro i hi
  rw [List.length_append, List.length_singleton] at hi
  by_cases h1 : i < l.length
  · rw [List.getElem?_append_left h1, h i h1]
    unfold upd
    rw [if_neg (by omega)]
  · obtain rfl : i = l.length := by omega
    rw [List.getElem?_append_right (Nat.le_refl _), Nat.sub_self]
    unfold upd
    rw [if_pos rfl]
    rfl
theorem AL.congr {f g : Nat → Int32} {o : Nat} {l : List Int32} (h : AL f o l) (e : ∀ i : Nat, i < l.length → g (o + i) = f (o + i)) : AL g o l := fun i hi => by rw [e i hi]; exact h i hi
theorem AL_rf {g : Nat → Int32} {l : List Int32} (h : AL g 0 l) {c : Int32} : rf g c l.length = l.length ↔ c ∉ l := by
  constructor
  · intro e hm
    obtain ⟨i, hi⟩ := List.getElem?_of_mem hm
    have hl := (List.getElem?_eq_some_iff.mp hi).1
    have h1 := h i hl
    rw [hi] at h1
    have h2 : g i = c := by rw [show g i = g (0 + i) by rw [Nat.zero_add]]; exact (Option.some.inj h1).symm
    have h3 : ∀ n : Nat, i < n → rf g c n < n := by
      intro n
      induction n with
      | zero => intro z; omega
      | succ n ih =>
        intro z
        rw [rf]
        by_cases q : i < n
        · rw [if_pos (ih q)]; have := ih q; omega
        · obtain rfl : i = n := by omega
          split <;> first | omega | (rw [if_pos h2]; omega)
    have := h3 _ hl
    omega
  · intro hm
    refine rf_none _ fun j hj e => hm ?_
    rw [← e]
    have := h.at hj
    rwa [Nat.zero_add] at this
abbrev Rl : Type := List (List Int32 × List Int32)
def preL (R : Rl) (r : Nat) : Nat := ((R.take r).map (fun q => q.1.length)).sum
def allC (R : Rl) : List Int32 := (R.map (fun q => q.1)).flatten
theorem preL_all (R : Rl) : (allC R).length = preL R R.length := by
  unfold allC preL
  rw [List.length_flatten, List.take_length, List.map_map]
  rfl
theorem preL_0 (R : Rl) : preL R 0 = 0 := rfl
theorem preL_s {R : Rl} {r : Nat} {q : List Int32 × List Int32} (h : R[r]? = some q) : preL R (r + 1) = preL R r + q.1.length := by
  unfold preL
  rw [List.take_add_one, h]
  simp
theorem preL_le {R : Rl} {r : Nat} : preL R r ≤ preL R R.length := by
  unfold preL
  rw [List.take_length]
  conv => rhs; rw [← List.take_append_drop r R]
  rw [List.map_append, List.sum_append]
  omega
/-- a rule's codes: how many truths stand, none too few -/
def wfR : List Int32 → Nat → Bool
  | [], n => n == 1
  | c :: t, n => if c = 10000000 then decide (1 ≤ n) && wfR t n else if c = 11000000 ∨ c = 12000000 then decide (2 ≤ n) && wfR t (n - 1) else wfR t (n + 1)
def codeOk (c : Int32) : Prop := (0 ≤ c.toInt ∧ c.toInt ≤ 9000000) ∨ c = 10000000 ∨ c = 11000000 ∨ c = 12000000
def ruleOk (q : List Int32 × List Int32) : Prop := wfR q.1 0 = true ∧ (∀ c ∈ q.1, codeOk c) ∧ q.2.length ≤ 4 ∧ ∀ a ∈ q.2, 0 ≤ a.toInt ∧ a.toInt ≤ 10
/-- the arrays 2 .. 6 hold the rules R of the box b -/
def RV (σ : TS) (b : Nat) (R : Rl) : Prop := σ.2 2 b = nI R.length ∧ R.length ≤ 6 ∧ preL R R.length ≤ 90 ∧ (∀ r : Nat, r ≤ R.length → σ.2 4 (7 * b + r) = nI (preL R r)) ∧ ∀ (r : Nat) (q : List Int32 × List Int32), R[r]? = some q → AL (σ.2 3) (180 * b + preL R r) q.1 ∧ σ.2 6 (6 * b + r) = nI q.2.length ∧ AL (σ.2 5) (24 * b + 4 * r) q.2 ∧ ruleOk q
theorem AL.app {f : Nat → Int32} {o : Nat} {l m : List Int32} (h : AL f o l) (h2 : AL f (o + l.length) m) : AL f o (l ++ m) := by
  intro i hi
  by_cases h1 : i < l.length
  · rw [List.getElem?_append_left h1]; exact h i h1
  · rw [List.length_append] at hi
    rw [List.getElem?_append_right (by omega), h2 _ (by omega), show o + l.length + (i - l.length) = o + i by omega]
theorem RV.codes {σ : TS} {b : Nat} {R : Rl} (h : RV σ b R) : AL (σ.2 3) (180 * b) (allC R) := by
  have key : ∀ n : Nat, n ≤ R.length → AL (σ.2 3) (180 * b) (allC (R.take n)) ∧ (allC (R.take n)).length = preL R n := by
    intro n
    induction n with
    | zero => intro _; exact ⟨AL.nil, rfl⟩
    | succ n ih =>
      intro hn
      obtain ⟨i1, i2⟩ := ih (by omega)
      have hq : R[n]? = some (R[n]'(by omega)) := List.getElem?_eq_getElem (by omega)
      have e : allC (R.take (n + 1)) = allC (R.take n) ++ (R[n]'(by omega)).1 := by
        unfold allC
        rw [List.take_add_one, hq]
        simp only [List.map_append, List.flatten_append, Option.toList_some, List.map_cons, List.map_nil, List.flatten_cons, List.flatten_nil, List.append_nil]
      rw [e]
      refine ⟨i1.app ?_, ?_⟩
      · rw [i2]; exact (h.2.2.2.2 n _ hq).1
      · rw [List.length_append, i2, preL_s hq]
  have := (key R.length (Nat.le_refl _)).1
  rwa [List.take_length] at this
theorem RV.code {σ : TS} {b : Nat} {R : Rl} (h : RV σ b R) {c : Int32} (hc : c ∈ allC R) : codeOk c := by
  unfold allC at hc
  obtain ⟨l, h1, h2⟩ := List.mem_flatten.mp hc
  obtain ⟨q, h3, rfl⟩ := List.mem_map.mp h1
  obtain ⟨r, h4⟩ := List.getElem?_of_mem h3
  exact (h.2.2.2.2 r q h4).2.2.2.2.1 c h2
/-- the unlike atoms of codes, behind a -/
def gth : List Int32 → List Int32 → List Int32
  | [], a => a
  | c :: t, a => gth t (if c.toInt < 9000000 ∧ c ∉ a then a ++ [c] else a)
theorem tA_tS {σ : TS} {k j i : Nat} {v x : Int32} : tA (tS σ k v) j i x = tS (tA σ j i x) k v := rfl
theorem tS_tS {σ : TS} {k : Nat} {v x : Int32} : tS (tS σ k v) k x = tS σ k x := by
  unfold tS
  refine Prod.ext ?_ rfl
  funext j
  unfold upd
  by_cases h : j = k
  · simp only [if_pos h]
  · simp only [if_neg h]
theorem mX8_numberOf {E : gE} {θ : TA} (hθ : tOk θ) {σ : TS} {c : Int32} {n : Nat} (hn : σ.1 60 = nI n) (h : n ≤ 180) : TMi E θ σ yX8_numberOf cX8_numberOf 3 .int 0 [.int c] (fun r σ' => r = nI (rf (σ.2 59) c n) ∧ σ' = σ) := by
  refine TMi.of (by decide) (Nat.le_of_ble_eq_true rfl) ?_
  rintro κ rfl hL hκ hr
  have loop : ∀ (m i : Nat), i ≤ n → n - i < m → (∀ j, j < i → ¬ σ.2 59 j = c) → X κ (tG (kE κ) θ σ) 0 0 2 [some (.ref θ.1), some (.int c), some (.int (nI i))] [] := by
    intro m
    induction m with
    | zero => intro i h1 h2; exact absurd h2 (Nat.not_lt_zero _)
    | succ m ih =>
      intro i hi hm hj
      refine x_iload_n hκ dX8_numberOf_2 rfl ?_
      refine x_aload_n hκ dX8_numberOf_3 rfl ?_
      refine t_get hκ fl8_60 (by decide) (by decide) rfl (by (try simp (disch := omega) only [tS_1, tS_2, tA_1, tA_2, tF_1, tF_2, xl_0, xl_1, xl_2, Nat.reduceEqDiff, ↓reduceIte, nI_add, nI_1, nm_2, nm_3, nm_4, nm_6, nm_7, nm_8, nm_12, nm_16, nm_24, nm_40, nm_180, nm_300, nm_10210, na_0, na_2, na_3, na_4, na_5, na_6, na_7, na_8, nm_p, nm_m, nI_clamp, hn]); exact rfl) dX8_numberOf_4 ?_
      refine x_icmp_ge (tgt := 26) hκ dX8_numberOf_7 (by decide) (fun c7 => ?_) (fun c7 => ?_)
      · -- X8_numberOf 7T
        have i7 := c7
        simp (disch := omega) only [i32_lt, i32_le, i32_eq, Int32.reduceToInt, nI_toInt] at i7
        refine x_iload_n hκ dX8_numberOf_26 rfl ?_
        refine t_reti hκ hr rfl dX8_numberOf_27 ?_
        obtain rfl : i = n := by omega
        rw [rf_none i hj]
        exact ⟨rfl, rfl⟩
      · -- X8_numberOf 7F
        have i7 := c7
        simp (disch := omega) only [i32_lt, i32_le, i32_eq, Int32.reduceToInt, nI_toInt] at i7
        refine x_aload_n hκ dX8_numberOf_10 rfl ?_
        refine t_getA hκ fl8_59 (by decide) (by decide) rfl dX8_numberOf_11 ?_
        refine x_iload_n hκ dX8_numberOf_14 rfl ?_
        refine t_iald (n := 180) hκ hθ (by decide) rfl rfl (by first | ((with_reducible refine vp_in_nI ?_ ?_) <;> omega) | exact i32_in (by omega) (by omega) | exact i32_in' (by simp only [Int32.toInt_add, Int32.toInt_mul, Int32.toInt_sub, Int32.reduceToInt, Int.bmod_add_bmod, Int.bmod_sub_bmod, Int.add_bmod_bmod, Int.sub_bmod_bmod, Int.bmod_mul_bmod, Int.mul_bmod_bmod]; exact i32_bm (by omega) (by omega)) (by omega) (by omega) | exact i32_in (by decide) (by decide)) (by (try simp (disch := omega) only [tS_1, tS_2, tA_1, tA_2, tF_1, tF_2, xl_0, xl_1, xl_2, Nat.reduceEqDiff, ↓reduceIte, nI_add, nI_1, nm_2, nm_3, nm_4, nm_6, nm_7, nm_8, nm_12, nm_16, nm_24, nm_40, nm_180, nm_300, nm_10210, na_0, na_2, na_3, na_4, na_5, na_6, na_7, na_8, nm_p, nm_m, nI_clamp, hn]); exact rfl) dX8_numberOf_15 ?_
        refine x_iload_n hκ dX8_numberOf_16 rfl ?_
        refine x_icmp_eq (tgt := 26) hκ dX8_numberOf_17 (by decide) (fun c17 => ?_) (fun c17 => ?_)
        · -- X8_numberOf 17T
          have i17 := c17
          simp (disch := omega) only [i32_lt, i32_le, i32_eq, Int32.reduceToInt, nI_toInt] at i17
          refine x_iload_n hκ dX8_numberOf_26 rfl ?_
          refine t_reti hκ hr rfl dX8_numberOf_27 ?_
          rw [rf_at hj c17 n (by omega)]
          exact ⟨rfl, rfl⟩
        · -- X8_numberOf 17F
          have i17 := c17
          simp (disch := omega) only [i32_lt, i32_le, i32_eq, Int32.reduceToInt, nI_toInt] at i17
          refine x_iincN (y := 1) hκ dX8_numberOf_20 (by decide) rfl (by rw [hL]; decide) rfl (by (try simp (disch := omega) only [tS_1, tS_2, tA_1, tA_2, tF_1, tF_2, xl_0, xl_1, xl_2, Nat.reduceEqDiff, ↓reduceIte, nI_add, nI_1, nm_2, nm_3, nm_4, nm_6, nm_7, nm_8, nm_12, nm_16, nm_24, nm_40, nm_180, nm_300, nm_10210, na_0, na_2, na_3, na_4, na_5, na_6, na_7, na_8, nm_p, nm_m, nI_clamp, hn]); exact rfl) ?_
          refine x_goto (tgt := 2) hκ dX8_numberOf_23 (by decide) ?_
          exact ih (i + 1) (by omega) (by omega) (fun j q => by rcases (by omega : j < i ∨ j = i) with z | z; exact hj j z; rw [z]; exact c17)
  refine x_iconst (v := 0) hκ dX8_numberOf_0 (by decide) ?_
  refine x_istore_n hκ dX8_numberOf_1 (by rw [hL]; decide) rfl ?_
  exact loop (n + 1) 0 (by omega) (by omega) (fun j q => absurd q (Nat.not_lt_zero _))
theorem gth_len : ∀ (l a : List Int32), (gth l a).length ≤ a.length + l.length
  | [], a => Nat.le_refl _
  | c :: t, a => by
    rw [gth]
    have h := gth_len t (if c.toInt < 9000000 ∧ c ∉ a then a ++ [c] else a)
    rw [List.length_cons]
    split at h
    · rw [List.length_append, List.length_singleton] at h; rw [if_pos (by assumption)]; omega
    · rw [if_neg (by assumption)]; omega
theorem mX8_gather {E : gE} {θ : TA} (hθ : tOk θ) {σ : TS} {b : Nat} (hb : b < 3) {R : Rl} (hR : RV σ b R) : TMv E θ σ yX8_gather cX8_gather 4 1 [.int (nI b)] (fun σ' => ∃ g : Nat → Int32, σ' = tS (tF σ 59 g) 60 (nI (gth (allC R) []).length) ∧ AL g 0 (gth (allC R) [])) := by
  refine TMv.of (by decide) (Nat.le_of_ble_eq_true rfl) ?_
  rintro κ rfl hL hκ hr
  have hC := hR.codes
  have hlen := preL_all R
  have h90 := hR.2.2.1
  have hl6 := hR.2.1
  have e1 := hR.1
  have e2 := hR.2.2.2.1 R.length (Nat.le_refl _)
  have loop : ∀ (m k : Nat) (a : List Int32) (g : Nat → Int32) (o : Option Value), k ≤ (allC R).length → (allC R).length - k < m → a.length ≤ k → AL g 0 a → gth ((allC R).drop k) a = gth (allC R) [] → X κ (tG (kE κ) θ (tS (tF σ 59 g) 60 (nI a.length))) 0 0 15 [some (.ref θ.1), some (.int (nI b)), some (.int (nI k)), o] [] := by
    intro m
    induction m with
    | zero => intro k a g o h1 h2; exact absurd h2 (Nat.not_lt_zero _)
    | succ m ih =>
      intro k a g o hk hm ha hg he
      have hn1 : (tS (tF σ 59 g) 60 (nI a.length)).1 60 = nI a.length := rfl
      have hrl : rf g (σ.2 3 (180 * b + k)) a.length ≤ a.length := by
        have key : ∀ n, rf g (σ.2 3 (180 * b + k)) n ≤ n := by
          intro n
          induction n with
          | zero => exact Nat.le_refl _
          | succ n ih => rw [rf]; split; omega; split <;> omega
        exact key _
      refine x_iload_n hκ dX8_gather_15 rfl ?_
      refine x_aload_n hκ dX8_gather_16 rfl ?_
      refine t_getA hκ fl8_4 (by decide) (by decide) rfl dX8_gather_17 ?_
      refine x_bipush (v := 7) hκ dX8_gather_20 (by decide) ?_
      refine x_iload_n hκ dX8_gather_22 rfl ?_
      refine x_imulN hκ (by (try simp (disch := omega) only [tS_1, tS_2, tA_1, tA_2, tF_1, tF_2, xl_0, xl_1, xl_2, Nat.reduceEqDiff, ↓reduceIte, nI_add, nI_1, nm_2, nm_3, nm_4, nm_6, nm_7, nm_8, nm_12, nm_16, nm_24, nm_40, nm_180, nm_300, nm_10210, na_0, na_2, na_3, na_4, na_5, na_6, na_7, na_8, nm_p, nm_m, nI_clamp, e1, e2]); exact rfl) dX8_gather_23 ?_
      refine x_aload_n hκ dX8_gather_24 rfl ?_
      refine t_getA hκ fl8_2 (by decide) (by decide) rfl dX8_gather_25 ?_
      refine x_iload_n hκ dX8_gather_28 rfl ?_
      refine t_iald (n := 3) hκ hθ (by decide) rfl rfl (by first | ((with_reducible refine vp_in_nI ?_ ?_) <;> omega) | exact i32_in (by omega) (by omega) | exact i32_in' (by simp only [Int32.toInt_add, Int32.toInt_mul, Int32.toInt_sub, Int32.reduceToInt, Int.bmod_add_bmod, Int.bmod_sub_bmod, Int.add_bmod_bmod, Int.sub_bmod_bmod, Int.bmod_mul_bmod, Int.mul_bmod_bmod]; exact i32_bm (by omega) (by omega)) (by omega) (by omega) | exact i32_in (by decide) (by decide)) (by (try simp (disch := omega) only [tS_1, tS_2, tA_1, tA_2, tF_1, tF_2, xl_0, xl_1, xl_2, Nat.reduceEqDiff, ↓reduceIte, nI_add, nI_1, nm_2, nm_3, nm_4, nm_6, nm_7, nm_8, nm_12, nm_16, nm_24, nm_40, nm_180, nm_300, nm_10210, na_0, na_2, na_3, na_4, na_5, na_6, na_7, na_8, nm_p, nm_m, nI_clamp, e1, e2]); exact rfl) dX8_gather_29 ?_
      refine x_iaddN hκ (by (try simp (disch := omega) only [tS_1, tS_2, tA_1, tA_2, tF_1, tF_2, xl_0, xl_1, xl_2, Nat.reduceEqDiff, ↓reduceIte, nI_add, nI_1, nm_2, nm_3, nm_4, nm_6, nm_7, nm_8, nm_12, nm_16, nm_24, nm_40, nm_180, nm_300, nm_10210, na_0, na_2, na_3, na_4, na_5, na_6, na_7, na_8, nm_p, nm_m, nI_clamp, e1, e2]); exact rfl) dX8_gather_30 ?_
      refine t_iald (n := 21) hκ hθ (by decide) rfl rfl (by first | ((with_reducible refine vp_in_nI ?_ ?_) <;> omega) | exact i32_in (by omega) (by omega) | exact i32_in' (by simp only [Int32.toInt_add, Int32.toInt_mul, Int32.toInt_sub, Int32.reduceToInt, Int.bmod_add_bmod, Int.bmod_sub_bmod, Int.add_bmod_bmod, Int.sub_bmod_bmod, Int.bmod_mul_bmod, Int.mul_bmod_bmod]; exact i32_bm (by omega) (by omega)) (by omega) (by omega) | exact i32_in (by decide) (by decide)) (by (try simp (disch := omega) only [tS_1, tS_2, tA_1, tA_2, tF_1, tF_2, xl_0, xl_1, xl_2, Nat.reduceEqDiff, ↓reduceIte, nI_add, nI_1, nm_2, nm_3, nm_4, nm_6, nm_7, nm_8, nm_12, nm_16, nm_24, nm_40, nm_180, nm_300, nm_10210, na_0, na_2, na_3, na_4, na_5, na_6, na_7, na_8, nm_p, nm_m, nI_clamp, e1, e2]); exact rfl) dX8_gather_31 ?_
      refine x_icmp_ge (tgt := 92) hκ dX8_gather_32 (by decide) (fun c32 => ?_) (fun c32 => ?_)
      · -- X8_gather 32T
        have i32 := c32
        simp (disch := omega) only [i32_lt, i32_le, i32_eq, Int32.reduceToInt, nI_toInt] at i32
        refine t_retv hκ hr dX8_gather_92 ?_
        obtain rfl : k = (allC R).length := by omega
        rw [List.drop_length] at he
        rw [gth] at he
        subst he
        exact ⟨g, rfl, hg⟩
      · -- X8_gather 32F
        have i32 := c32
        simp (disch := omega) only [i32_lt, i32_le, i32_eq, Int32.reduceToInt, nI_toInt] at i32
        refine x_aload_n hκ dX8_gather_35 rfl ?_
        refine t_getA hκ fl8_3 (by decide) (by decide) rfl dX8_gather_36 ?_
        refine x_sipush (v := 180) hκ dX8_gather_39 (by decide) ?_
        refine x_iload_n hκ dX8_gather_42 rfl ?_
        refine x_imulN hκ (by (try simp (disch := omega) only [tS_1, tS_2, tA_1, tA_2, tF_1, tF_2, xl_0, xl_1, xl_2, Nat.reduceEqDiff, ↓reduceIte, nI_add, nI_1, nm_2, nm_3, nm_4, nm_6, nm_7, nm_8, nm_12, nm_16, nm_24, nm_40, nm_180, nm_300, nm_10210, na_0, na_2, na_3, na_4, na_5, na_6, na_7, na_8, nm_p, nm_m, nI_clamp, e1, e2]); exact rfl) dX8_gather_43 ?_
        refine x_iload_n hκ dX8_gather_44 rfl ?_
        refine x_iaddN hκ (by (try simp (disch := omega) only [tS_1, tS_2, tA_1, tA_2, tF_1, tF_2, xl_0, xl_1, xl_2, Nat.reduceEqDiff, ↓reduceIte, nI_add, nI_1, nm_2, nm_3, nm_4, nm_6, nm_7, nm_8, nm_12, nm_16, nm_24, nm_40, nm_180, nm_300, nm_10210, na_0, na_2, na_3, na_4, na_5, na_6, na_7, na_8, nm_p, nm_m, nI_clamp, e1, e2]); exact rfl) dX8_gather_45 ?_
        refine t_iald (n := 540) hκ hθ (by decide) rfl rfl (by first | ((with_reducible refine vp_in_nI ?_ ?_) <;> omega) | exact i32_in (by omega) (by omega) | exact i32_in' (by simp only [Int32.toInt_add, Int32.toInt_mul, Int32.toInt_sub, Int32.reduceToInt, Int.bmod_add_bmod, Int.bmod_sub_bmod, Int.add_bmod_bmod, Int.sub_bmod_bmod, Int.bmod_mul_bmod, Int.mul_bmod_bmod]; exact i32_bm (by omega) (by omega)) (by omega) (by omega) | exact i32_in (by decide) (by decide)) (by (try simp (disch := omega) only [tS_1, tS_2, tA_1, tA_2, tF_1, tF_2, xl_0, xl_1, xl_2, Nat.reduceEqDiff, ↓reduceIte, nI_add, nI_1, nm_2, nm_3, nm_4, nm_6, nm_7, nm_8, nm_12, nm_16, nm_24, nm_40, nm_180, nm_300, nm_10210, na_0, na_2, na_3, na_4, na_5, na_6, na_7, na_8, nm_p, nm_m, nI_clamp, e1, e2]); exact rfl) dX8_gather_46 ?_
        refine x_istore_n hκ dX8_gather_47 (by rw [hL]; decide) rfl ?_
        refine x_iload_n hκ dX8_gather_48 rfl ?_
        refine x_ldc hκ q1461 dX8_gather_49 ?_
        refine x_icmp_ge (tgt := 86) hκ dX8_gather_51 (by decide) (fun c51 => ?_) (fun c51 => ?_)
        · -- X8_gather 51T
          have i51 := c51
          simp (disch := omega) only [i32_lt, i32_le, i32_eq, Int32.reduceToInt, nI_toInt] at i51
          refine x_iincN (y := 1) hκ dX8_gather_86 (by decide) rfl (by rw [hL]; decide) rfl (by (try simp (disch := omega) only [tS_1, tS_2, tA_1, tA_2, tF_1, tF_2, xl_0, xl_1, xl_2, Nat.reduceEqDiff, ↓reduceIte, nI_add, nI_1, nm_2, nm_3, nm_4, nm_6, nm_7, nm_8, nm_12, nm_16, nm_24, nm_40, nm_180, nm_300, nm_10210, na_0, na_2, na_3, na_4, na_5, na_6, na_7, na_8, nm_p, nm_m, nI_clamp, e1, e2]); exact rfl) ?_
          refine x_goto (tgt := 15) hκ dX8_gather_89 (by decide) ?_
          have hd := hC.drop (k := k) (by omega)
          rw [hd, gth, if_neg (by omega)] at he
          exact ih (k + 1) a g _ (by omega) (by omega) (by omega) hg he
        · -- X8_gather 51F
          have i51 := c51
          simp (disch := omega) only [i32_lt, i32_le, i32_eq, Int32.reduceToInt, nI_toInt] at i51
          refine x_aload_n hκ dX8_gather_54 rfl ?_
          refine x_iload_n hκ dX8_gather_55 rfl ?_
          refine t_callR hκ (mX8_numberOf hθ (n := a.length) rfl (by omega)) (by omega) (by decide) wX8_203 aX8_numberOf rfl (Nat.le_of_ble_eq_true rfl) dX8_gather_56 (fun r56 h56 => ?_)
          subst h56
          have hd := hC.drop (k := k) (by omega)
          rw [show (tS (tF σ 59 g) 60 (nI a.length)).2 59 = g from rfl]
          refine x_aload_n hκ dX8_gather_59 rfl ?_
          refine t_get hκ fl8_60 (by decide) (by decide) rfl (by (try simp (disch := omega) only [tS_1, tS_2, tA_1, tA_2, tF_1, tF_2, xl_0, xl_1, xl_2, Nat.reduceEqDiff, ↓reduceIte, nI_add, nI_1, nm_2, nm_3, nm_4, nm_6, nm_7, nm_8, nm_12, nm_16, nm_24, nm_40, nm_180, nm_300, nm_10210, na_0, na_2, na_3, na_4, na_5, na_6, na_7, na_8, nm_p, nm_m, nI_clamp, e1, e2]); exact rfl) dX8_gather_60 ?_
          refine x_icmp_ne (tgt := 86) hκ dX8_gather_63 (by decide) (fun c63 => ?_) (fun c63 => ?_)
          · -- X8_gather 63T
            have i63 := c63
            simp (disch := omega) only [i32_lt, i32_le, i32_eq, Int32.reduceToInt, nI_toInt] at i63
            refine x_iincN (y := 1) hκ dX8_gather_86 (by decide) rfl (by rw [hL]; decide) rfl (by (try simp (disch := omega) only [tS_1, tS_2, tA_1, tA_2, tF_1, tF_2, xl_0, xl_1, xl_2, Nat.reduceEqDiff, ↓reduceIte, nI_add, nI_1, nm_2, nm_3, nm_4, nm_6, nm_7, nm_8, nm_12, nm_16, nm_24, nm_40, nm_180, nm_300, nm_10210, na_0, na_2, na_3, na_4, na_5, na_6, na_7, na_8, nm_p, nm_m, nI_clamp, e1, e2]); exact rfl) ?_
            refine x_goto (tgt := 15) hκ dX8_gather_89 (by decide) ?_
            have hm1 : ¬ σ.2 3 (180 * b + k) ∉ a := fun z => c63 (by rw [(AL_rf hg).mpr z])
            rw [hd, gth, if_neg (fun z => hm1 z.2)] at he
            exact ih (k + 1) a g _ (by omega) (by omega) (by omega) hg he
          · -- X8_gather 63F
            have i63 := c63
            simp (disch := omega) only [i32_lt, i32_le, i32_eq, Int32.reduceToInt, nI_toInt] at i63
            refine x_aload_n hκ dX8_gather_66 rfl ?_
            refine t_getA hκ fl8_59 (by decide) (by decide) rfl dX8_gather_67 ?_
            refine x_aload_n hκ dX8_gather_70 rfl ?_
            refine t_get hκ fl8_60 (by decide) (by decide) rfl (by (try simp (disch := omega) only [tS_1, tS_2, tA_1, tA_2, tF_1, tF_2, xl_0, xl_1, xl_2, Nat.reduceEqDiff, ↓reduceIte, nI_add, nI_1, nm_2, nm_3, nm_4, nm_6, nm_7, nm_8, nm_12, nm_16, nm_24, nm_40, nm_180, nm_300, nm_10210, na_0, na_2, na_3, na_4, na_5, na_6, na_7, na_8, nm_p, nm_m, nI_clamp, e1, e2]); exact rfl) dX8_gather_71 ?_
            refine x_iload_n hκ dX8_gather_74 rfl ?_
            refine t_iast (n := 180) hκ hθ (by decide) rfl rfl (by first | ((with_reducible refine vp_in_nI ?_ ?_) <;> omega) | exact i32_in (by omega) (by omega) | exact i32_in' (by simp only [Int32.toInt_add, Int32.toInt_mul, Int32.toInt_sub, Int32.reduceToInt, Int.bmod_add_bmod, Int.bmod_sub_bmod, Int.add_bmod_bmod, Int.sub_bmod_bmod, Int.bmod_mul_bmod, Int.mul_bmod_bmod]; exact i32_bm (by omega) (by omega)) (by omega) (by omega) | exact i32_in (by decide) (by decide)) (by (try simp (disch := omega) only [tS_1, tS_2, tA_1, tA_2, tF_1, tF_2, xl_0, xl_1, xl_2, Nat.reduceEqDiff, ↓reduceIte, nI_add, nI_1, nm_2, nm_3, nm_4, nm_6, nm_7, nm_8, nm_12, nm_16, nm_24, nm_40, nm_180, nm_300, nm_10210, na_0, na_2, na_3, na_4, na_5, na_6, na_7, na_8, nm_p, nm_m, nI_clamp, e1, e2]); exact rfl) dX8_gather_75 ?_
            refine x_aload_n hκ dX8_gather_76 rfl ?_
            refine x_dup hκ dX8_gather_77 rfl ?_
            refine t_get hκ fl8_60 (by decide) (by decide) rfl (by (try simp (disch := omega) only [tS_1, tS_2, tA_1, tA_2, tF_1, tF_2, xl_0, xl_1, xl_2, Nat.reduceEqDiff, ↓reduceIte, nI_add, nI_1, nm_2, nm_3, nm_4, nm_6, nm_7, nm_8, nm_12, nm_16, nm_24, nm_40, nm_180, nm_300, nm_10210, na_0, na_2, na_3, na_4, na_5, na_6, na_7, na_8, nm_p, nm_m, nI_clamp, e1, e2]); exact rfl) dX8_gather_78 ?_
            refine x_iconst (v := 1) hκ dX8_gather_81 (by decide) ?_
            refine x_iaddN hκ (by (try simp (disch := omega) only [tS_1, tS_2, tA_1, tA_2, tF_1, tF_2, xl_0, xl_1, xl_2, Nat.reduceEqDiff, ↓reduceIte, nI_add, nI_1, nm_2, nm_3, nm_4, nm_6, nm_7, nm_8, nm_12, nm_16, nm_24, nm_40, nm_180, nm_300, nm_10210, na_0, na_2, na_3, na_4, na_5, na_6, na_7, na_8, nm_p, nm_m, nI_clamp, e1, e2]); exact rfl) dX8_gather_82 ?_
            refine t_put hκ fl8_60 (by decide) (by decide) rfl rfl rfl dX8_gather_83 ?_
            refine x_iincN (y := 1) hκ dX8_gather_86 (by decide) rfl (by rw [hL]; decide) rfl (by (try simp (disch := omega) only [tS_1, tS_2, tA_1, tA_2, tF_1, tF_2, xl_0, xl_1, xl_2, Nat.reduceEqDiff, ↓reduceIte, nI_add, nI_1, nm_2, nm_3, nm_4, nm_6, nm_7, nm_8, nm_12, nm_16, nm_24, nm_40, nm_180, nm_300, nm_10210, na_0, na_2, na_3, na_4, na_5, na_6, na_7, na_8, nm_p, nm_m, nI_clamp, e1, e2]); exact rfl) ?_
            refine x_goto (tgt := 15) hκ dX8_gather_89 (by decide) ?_
            have hm1 : σ.2 3 (180 * b + k) ∉ a := (AL_rf hg).mp (by omega)
            rw [hd, gth, if_pos ⟨by omega, hm1⟩] at he
            rw [tA_tS, tA_tF, tS_tS]
            have q := ih (k + 1) (a ++ [σ.2 3 (180 * b + k)]) (upd g a.length (σ.2 3 (180 * b + k))) (some (.int (σ.2 3 (180 * b + k)))) (by omega) (by omega) (by rw [List.length_append, List.length_singleton]; omega) (by have := hg.snoc (σ.2 3 (180 * b + k)); rwa [Nat.zero_add] at this) he
            rw [List.length_append, List.length_singleton] at q
            exact q
  refine x_aload_n hκ dX8_gather_0 rfl ?_
  refine x_iconst (v := 0) hκ dX8_gather_1 (by decide) ?_
  refine t_put hκ fl8_60 (by decide) (by decide) rfl rfl rfl dX8_gather_2 ?_
  refine x_aload_n hκ dX8_gather_5 rfl ?_
  refine t_getA hκ fl8_4 (by decide) (by decide) rfl dX8_gather_6 ?_
  refine x_bipush (v := 7) hκ dX8_gather_9 (by decide) ?_
  refine x_iload_n hκ dX8_gather_11 rfl ?_
  refine x_imulN hκ (by (try simp (disch := omega) only [tS_1, tS_2, tA_1, tA_2, tF_1, tF_2, xl_0, xl_1, xl_2, Nat.reduceEqDiff, ↓reduceIte, nI_add, nI_1, nm_2, nm_3, nm_4, nm_6, nm_7, nm_8, nm_12, nm_16, nm_24, nm_40, nm_180, nm_300, nm_10210, na_0, na_2, na_3, na_4, na_5, na_6, na_7, na_8, nm_p, nm_m, nI_clamp, e1]); exact rfl) dX8_gather_12 ?_
  refine t_iald (n := 21) hκ hθ (by decide) rfl rfl (by first | ((with_reducible refine vp_in_nI ?_ ?_) <;> omega) | exact i32_in (by omega) (by omega) | exact i32_in' (by simp only [Int32.toInt_add, Int32.toInt_mul, Int32.toInt_sub, Int32.reduceToInt, Int.bmod_add_bmod, Int.bmod_sub_bmod, Int.add_bmod_bmod, Int.sub_bmod_bmod, Int.bmod_mul_bmod, Int.mul_bmod_bmod]; exact i32_bm (by omega) (by omega)) (by omega) (by omega) | exact i32_in (by decide) (by decide)) (by (try simp (disch := omega) only [tS_1, tS_2, tA_1, tA_2, tF_1, tF_2, xl_0, xl_1, xl_2, Nat.reduceEqDiff, ↓reduceIte, nI_add, nI_1, nm_2, nm_3, nm_4, nm_6, nm_7, nm_8, nm_12, nm_16, nm_24, nm_40, nm_180, nm_300, nm_10210, na_0, na_2, na_3, na_4, na_5, na_6, na_7, na_8, nm_p, nm_m, nI_clamp, e1]); exact rfl) dX8_gather_13 ?_
  rw [show σ.2 4 (7 * b) = nI 0 from hR.2.2.2.1 0 (Nat.zero_le _)]
  refine x_istore_n hκ dX8_gather_14 (by rw [hL]; decide) rfl ?_
  have q := loop ((allC R).length + 1) 0 [] (σ.2 59) none (by omega) (by omega) (Nat.le_refl _) AL.nil rfl
  rw [tF_self] at q
  exact q
