
/-! the reference: rules are read -/
def cp (f : Nat → Int32) (o : Nat) (g : Nat → Int32) (n : Nat) : Nat → Int32 := fun i => if o ≤ i ∧ i < o + n then g (i - o) else f i
theorem cp_0 {f g : Nat → Int32} {o : Nat} : cp f o g 0 = f := by
  funext i
  unfold cp
  rw [if_neg (by omega)]
theorem cp_s {f g : Nat → Int32} {o n : Nat} : upd (cp f o g n) (o + n) (g n) = cp f o g (n + 1) := by
  funext i
  unfold upd cp
  by_cases h : i = o + n
  · subst h
    rw [if_pos rfl, if_pos (by omega), show o + n - o = n by omega]
  · rw [if_neg h]
    by_cases h2 : o ≤ i ∧ i < o + n
    · rw [if_pos h2, if_pos (by omega)]
    · rw [if_neg h2, if_neg (by omega)]
theorem cp_i {f g : Nat → Int32} {o n k : Nat} (h : k < n) : upd (cp f o g n) (o + k) (g k) = cp f o g n := by
  funext i
  unfold upd cp
  by_cases h : i = o + k
  · subst h
    rw [if_pos rfl, if_pos (by omega), show o + k - o = k by omega]
  · rw [if_neg h]
theorem cp_in {f g : Nat → Int32} {o n k : Nat} (h : k < n) : cp f o g n (o + k) = g k := by
  unfold cp
  rw [if_pos (by omega), show o + k - o = k by omega]
theorem cp_out {f g : Nat → Int32} {o n i : Nat} (h : i < o ∨ o + n ≤ i) : cp f o g n i = f i := by
  unfold cp
  rw [if_neg (by omega)]
/-- the rules that are read are laid into the box -/
def CS (σ : TS) (b n m r4 r6 k5 : Nat) : TS := tF (tF (tF (tF (tA σ 2 b (nI n)) 3 (cp (σ.2 3) (180 * b) (σ.2 14) m)) 4 (cp (σ.2 4) (7 * b) (σ.2 16) r4)) 6 (cp (σ.2 6) (6 * b) (σ.2 18) r6)) 5 (cp (σ.2 5) (24 * b) (σ.2 17) k5)
theorem CS_3 {σ : TS} {b n m r4 r6 k5 : Nat} : tA (CS σ b n m r4 r6 k5) 3 (180 * b + m) (σ.2 14 m) = CS σ b n (m + 1) r4 r6 k5 := by
  refine Prod.ext rfl ?_
  funext j
  by_cases h : j = 3
  · subst h
    show upd (cp (σ.2 3) (180 * b) (σ.2 14) m) (180 * b + m) (σ.2 14 m) = cp (σ.2 3) (180 * b) (σ.2 14) (m + 1)
    exact cp_s
  · show (if j = 3 then _ else (CS σ b n m r4 r6 k5).2 j) = _
    rw [if_neg h]
    unfold CS
    simp only [tF_2, h, if_false]
theorem CS_4 {σ : TS} {b n m r4 r6 k5 k : Nat} (hk : k < r4) : tA (CS σ b n m r4 r6 k5) 4 (7 * b + k) (σ.2 16 k) = CS σ b n m r4 r6 k5 := by
  refine Prod.ext rfl ?_
  funext j
  by_cases h : j = 4
  · subst h
    show upd (cp (σ.2 4) (7 * b) (σ.2 16) r4) (7 * b + k) (σ.2 16 k) = cp (σ.2 4) (7 * b) (σ.2 16) r4
    exact cp_i hk
  · show (if j = 4 then _ else (CS σ b n m r4 r6 k5).2 j) = _
    rw [if_neg h]
theorem CS_4s {σ : TS} {b n m r4 r6 k5 : Nat} : tA (CS σ b n m r4 r6 k5) 4 (7 * b + r4) (σ.2 16 r4) = CS σ b n m (r4 + 1) r6 k5 := by
  refine Prod.ext rfl ?_
  funext j
  by_cases h : j = 4
  · subst h
    show upd (cp (σ.2 4) (7 * b) (σ.2 16) r4) (7 * b + r4) (σ.2 16 r4) = cp (σ.2 4) (7 * b) (σ.2 16) (r4 + 1)
    exact cp_s
  · show (if j = 4 then _ else (CS σ b n m r4 r6 k5).2 j) = _
    rw [if_neg h]
    unfold CS
    simp only [tF_2, h, if_false]
theorem CS_6 {σ : TS} {b n m r4 r6 k5 : Nat} : tA (CS σ b n m r4 r6 k5) 6 (6 * b + r6) (σ.2 18 r6) = CS σ b n m r4 (r6 + 1) k5 := by
  refine Prod.ext rfl ?_
  funext j
  by_cases h : j = 6
  · subst h
    show upd (cp (σ.2 6) (6 * b) (σ.2 18) r6) (6 * b + r6) (σ.2 18 r6) = cp (σ.2 6) (6 * b) (σ.2 18) (r6 + 1)
    exact cp_s
  · show (if j = 6 then _ else (CS σ b n m r4 r6 k5).2 j) = _
    rw [if_neg h]
    unfold CS
    simp only [tF_2, h, if_false]
theorem CS_5 {σ : TS} {b n m r4 r6 k5 : Nat} : tA (CS σ b n m r4 r6 k5) 5 (24 * b + k5) (σ.2 17 k5) = CS σ b n m r4 r6 (k5 + 1) := by
  refine Prod.ext rfl ?_
  funext j
  by_cases h : j = 5
  · subst h
    show upd (cp (σ.2 5) (24 * b) (σ.2 17) k5) (24 * b + k5) (σ.2 17 k5) = cp (σ.2 5) (24 * b) (σ.2 17) (k5 + 1)
    exact cp_s
  · show (if j = 5 then _ else (CS σ b n m r4 r6 k5).2 j) = _
    rw [if_neg h]
    unfold CS
    simp only [tF_2, h, if_false]
theorem CS_0 {σ : TS} {b n : Nat} : CS σ b n 0 0 0 0 = tA σ 2 b (nI n) := by
  unfold CS
  simp only [cp_0]
  refine Prod.ext rfl ?_
  funext j
  simp only [tF_2, tA_2]
  by_cases h5 : j = 5
  · subst h5; rfl
  · by_cases h6 : j = 6
    · subst h6; rfl
    · by_cases h4 : j = 4
      · subst h4; rfl
      · by_cases h3 : j = 3
        · subst h3; rfl
        · simp only [h3, h4, h5, h6, if_false]
/-- the rules R are read -/
def RI (R : Rl) (σ : TS) : Prop := σ.1 19 = nI R.length ∧ σ.1 15 = nI (allC R).length ∧ AL (σ.2 14) 0 (allC R) ∧ (∀ r, r < R.length → σ.2 16 r = nI (preL R r)) ∧ (R ≠ [] → σ.2 16 R.length = nI (preL R R.length)) ∧ ∀ (r : Nat) (q : List Int32 × List Int32), R[r]? = some q → σ.2 18 r = nI q.2.length ∧ AL (σ.2 17) (4 * r) q.2 ∧ ruleOk q
theorem allC_s {R : Rl} {s ac : List Int32} : allC (R ++ [(s, ac)]) = allC R ++ s := by
  unfold allC
  rw [List.map_append, List.flatten_append]
  simp
theorem preL_lt {R : Rl} {q : List Int32 × List Int32} {r : Nat} (h : r ≤ R.length) : preL (R ++ [q]) r = preL R r := by
  unfold preL
  rw [List.take_append_of_le_length h]
theorem RI.step {σ σ' : TS} {N a' : Nat} {R : Rl} {s ac : List Int32} (h : RI R σ) (hP : RuP σ N R.length (allC R) a' (allC R ++ s) ac σ') (hok : ruleOk (s, ac)) : RI (R ++ [(s, ac)]) σ' := by
  obtain ⟨h1, h2, h3, h4, h5, h6⟩ := h
  obtain ⟨p1, p2, p3, p4, p5, p6, p7, p8, p9, p10, p11⟩ := hP
  have hl : (R ++ [(s, ac)]).length = R.length + 1 := by rw [List.length_append, List.length_singleton]
  have hlast : preL (R ++ [(s, ac)]) (R.length + 1) = (allC R ++ s).length := by
    rw [← hl, ← preL_all, allC_s]
  refine ⟨by rw [hl]; exact p6, by rw [allC_s]; exact p4, by rw [allC_s]; exact p5, fun r hr => ?_, fun _ => ?_, fun r q hq => ?_⟩
  · rw [hl] at hr
    rw [preL_lt (by omega), p7]
    unfold upd
    rw [if_neg (by omega)]
    by_cases e : r = R.length
    · rw [if_pos e, e, ← preL_all]
    · rw [if_neg e]
      exact h4 r (by omega)
  · rw [hl, hlast, p7]
    exact if_pos rfl
  · by_cases e : r < R.length
    · rw [List.getElem?_append_left e] at hq
      obtain ⟨g1, g2, g3⟩ := h6 r q hq
      refine ⟨?_, g2.congr (fun i hi => p11 _ (by have := g3.2.2.1; omega)), g3⟩
      rw [p8]
      unfold upd
      rw [if_neg (by omega)]
      exact g1
    · have hr2 := (List.getElem?_eq_some_iff.mp hq).1
      rw [hl] at hr2
      have er : r = R.length := by omega
      subst er
      rw [List.getElem?_append_right (Nat.le_refl _), Nat.sub_self] at hq
      cases hq
      exact ⟨by rw [p8]; exact if_pos rfl, p9, hok⟩
theorem RI.RV {σ : TS} {R : Rl} (h : RI R σ) (hR : R ≠ []) (h6 : R.length ≤ 6) (h90 : (allC R).length ≤ 90) {b : Nat} : RV (CS σ b R.length (allC R).length (R.length + 1) R.length (4 * R.length)) b R := by
  obtain ⟨h1, h2, h3, h4, h5, h7⟩ := h
  refine ⟨if_pos rfl, h6, by rw [← preL_all]; exact h90, fun r hr => ?_, fun r q hq => ?_⟩
  · show cp (σ.2 4) (7 * b) (σ.2 16) (R.length + 1) (7 * b + r) = _
    rw [cp_in (by omega)]
    by_cases e : r = R.length
    · rw [e]; exact h5 hR
    · exact h4 r (by omega)
  · obtain ⟨g1, g2, g3⟩ := h7 r q hq
    have hr := (List.getElem?_eq_some_iff.mp hq).1
    have hple : preL R r + q.1.length ≤ (allC R).length := by
      rw [preL_all, ← preL_s hq]
      unfold preL
      have : ∀ (l : List Nat) (k : Nat), (l.take k).sum ≤ l.sum := fun l k => by
        have := congrArg List.sum (List.take_append_drop k l)
        rw [List.sum_append] at this
        omega
      rw [List.take_length, List.map_take]
      exact this _ _
    refine ⟨?_, ?_, ?_, g3⟩
    · have hA : AL (σ.2 14) (preL R r) q.1 := by
        intro i hi
        have e1 : (allC R)[preL R r + i]? = q.1[i]? := by
          have e2 : allC R = allC (R.take r) ++ (q.1 ++ allC (R.drop (r + 1))) := by
            have e3 : R = R.take r ++ (q :: R.drop (r + 1)) := by
              have := List.drop_eq_getElem_cons hr
              rw [(List.getElem?_eq_some_iff.mp hq).2] at this
              rw [← this, List.take_append_drop]
            conv => lhs; rw [e3]
            unfold allC
            rw [List.map_append, List.flatten_append, List.map_cons, List.flatten_cons]
          have e4 : (allC (R.take r)).length = preL R r := by
            rw [preL_all]
            unfold preL
            rw [List.take_length]
          rw [e2, List.getElem?_append_right (by omega), e4, show preL R r + i - preL R r = i by omega, List.getElem?_append_left hi]
        rw [← e1, h3 _ (by omega), Nat.zero_add]
      refine fun i hi => ?_
      show q.1[i]? = some (cp (σ.2 3) (180 * b) (σ.2 14) (allC R).length (180 * b + preL R r + i))
      rw [Nat.add_assoc, cp_in (by omega)]
      exact hA i hi
    · show cp (σ.2 6) (6 * b) (σ.2 18) R.length (6 * b + r) = _
      rw [cp_in hr]
      exact g1
    · refine fun i hi => ?_
      show q.2[i]? = some (cp (σ.2 5) (24 * b) (σ.2 17) (4 * R.length) (24 * b + 4 * r + i))
      have := g3.2.2.1
      rw [Nat.add_assoc, cp_in (by omega)]
      exact g2 i hi
theorem CS_RV {σ : TS} {b b' n m r4 r6 k5 : Nat} {R : Rl} (h : RV σ b' R) (hne : ¬ b' = b) (h1 : m ≤ 90) (h2 : r4 ≤ 7) (h3 : r6 ≤ 6) (h4 : k5 ≤ 24) : RV (CS σ b n m r4 r6 k5) b' R := by
  obtain ⟨g1, g2, g3, g4, g5⟩ := h
  refine ⟨?_, g2, g3, fun r hr => ?_, fun r q hq => ?_⟩
  · show upd (σ.2 2) b (nI n) b' = _
    unfold upd
    rw [if_neg hne]
    exact g1
  · show cp (σ.2 4) (7 * b) (σ.2 16) r4 (7 * b' + r) = _
    rw [cp_out (by omega)]
    exact g4 r hr
  · obtain ⟨k1, k2, k3, k4⟩ := g5 r q hq
    have hr := (List.getElem?_eq_some_iff.mp hq).1
    have hq4 := k4.2.2.1
    have hple : preL R r + q.1.length ≤ 90 := by
      refine Nat.le_trans ?_ g3
      rw [← preL_s hq]
      unfold preL
      have : ∀ (l : List Nat) (k : Nat), (l.take k).sum ≤ l.sum := fun l k => by
        have := congrArg List.sum (List.take_append_drop k l)
        rw [List.sum_append] at this
        omega
      rw [List.take_length, List.map_take]
      exact this _ _
    refine ⟨k1.congr (fun i hi => ?_), ?_, k3.congr (fun i hi => ?_), k4⟩
    · show cp (σ.2 3) (180 * b) (σ.2 14) m _ = _
      exact cp_out (by omega)
    · show cp (σ.2 6) (6 * b) (σ.2 18) r6 _ = _
      rw [cp_out (by omega)]
      exact k2
    · show cp (σ.2 5) (24 * b) (σ.2 17) k5 _ = _
      exact cp_out (by omega)
