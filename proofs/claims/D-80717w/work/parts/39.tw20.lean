theorem wX8_291 : GoodIn lw_all (va_wsS RX8 291 yX8_isGood (ws_ yX8_isGood cX8_isGood 9 (some .boolean))) := lw_S q1422 q1423 q82 q1424
theorem aX8_isGood : yX8_isGood.cls ≠ "java/lang/invoke/MethodHandle" ∧ yX8_isGood.cls ≠ "java/lang/invoke/VarHandle" ∧ (parseMethodDescriptor yX8_isGood.desc).map (fun d => d.parameters.length) = some 8 := by decide +kernel
theorem wX8_295 : GoodIn lw_all (wsV RX8 295 RX8 yX8_latest (ws_ yX8_latest cX8_latest 1 (some .int))) := lw_V q1429 q1431 qs43 q82 q1432
theorem aX8_latest : yX8_latest.cls = RX8 ∧ yX8_latest.cls ≠ "java/lang/invoke/MethodHandle" ∧ yX8_latest.cls ≠ "java/lang/invoke/VarHandle" ∧ (parseMethodDescriptor yX8_latest.desc).map (fun d => d.parameters.length) = some 0 := by decide +kernel
theorem wX8_298 : GoodIn lw_all (wsV RX8 298 RX8 yX8_isFull (ws_ yX8_isFull cX8_isFull 1 (some .boolean))) := lw_V q1433 q1435 qs44 q82 q1436
theorem aX8_isFull : yX8_isFull.cls = RX8 ∧ yX8_isFull.cls ≠ "java/lang/invoke/MethodHandle" ∧ yX8_isFull.cls ≠ "java/lang/invoke/VarHandle" ∧ (parseMethodDescriptor yX8_isFull.desc).map (fun d => d.parameters.length) = some 0 := by decide +kernel
theorem wX8_302 : GoodIn lw_all (wsV RX8 302 RX8 yX8_posted (ws_ yX8_posted cX8_posted 11 none)) := lw_V q1441 q1443 qs46 q82 q1444
theorem aX8_posted : yX8_posted.cls = RX8 ∧ yX8_posted.cls ≠ "java/lang/invoke/MethodHandle" ∧ yX8_posted.cls ≠ "java/lang/invoke/VarHandle" ∧ (parseMethodDescriptor yX8_posted.desc).map (fun d => d.parameters.length) = some 8 := by decide +kernel
/-! the reference: post, posts -/
abbrev poS : List Nat := [20, 21, 23, 24, 25, 26, 27, 28, 29, 30, 31, 32, 33, 34, 35, 36, 37, 38, 39, 40, 41, 42, 43, 44, 45, 46, 47, 48, 49, 50, 51, 52, 53]
theorem acS_po : ∀ k, poS.contains k = false → acS.contains k = false := by
  intro k hk
  simp only [poS, acS, List.contains_cons, List.contains_nil, Bool.or_false, Bool.or_eq_false_iff] at hk ⊢
  simp only [hk, and_self]
theorem coS_po : ∀ k, poS.contains k = false → ([34, 37, 39, 40, 41, 42, 43, 44, 45, 46, 47, 48, 49] : List Nat).contains k = false := by
  intro k hk
  simp only [poS, List.contains_cons, List.contains_nil, Bool.or_false, Bool.or_eq_false_iff] at hk ⊢
  simp only [hk, and_self]
theorem inS_po : ∀ k, poS.contains k = false → ([45, 46, 47, 48] : List Nat).contains k = false := by
  intro k hk
  simp only [poS, List.contains_cons, List.contains_nil, Bool.or_false, Bool.or_eq_false_iff] at hk ⊢
  simp only [hk, and_self]
theorem ComeR_Fr {R : Nat → Rl} {l0 k : Nat} {σ σ' : TS} (h : ComeR R l0 σ k σ') : Fr poS σ σ' := by
  obtain ⟨l, b, n8, n, s, -, -, -, -, -, -, -, -, hci, rfl⟩ := h
  exact (hci.1.sub acS_po).trans (comeE_Fr.sub coS_po)
theorem QueR_Fr {R : Nat → Rl} {l0 : Nat} : ∀ (f k : Nat) (σ σ' : TS), QueR R l0 f k σ σ' → Fr poS σ σ'
  | 0, _, _, _, h => h.elim
  | f + 1, k, σ, σ', h => by
    rw [QueR] at h
    split at h
    · obtain ⟨σ1, h1, h2⟩ := h
      exact (ComeR_Fr h1).trans (QueR_Fr f _ _ _ h2)
    · rw [h]; exact Fr.rf _ _
def PostR (R : Nat → Rl) (n : Nat) (σ : TS) (f t w s g i r d : Int32) (σ' : TS) : Prop := QueR R n 31 0 (inQ (addS σ n f t w s g i r d) n t 3) σ' ∧ ∃ (k n' : Nat), QI R n σ' k k n'
theorem PostR_Fr {R : Nat → Rl} {n : Nat} {σ σ' : TS} {f t w s g i r d : Int32} (h : PostR R n σ f t w s g i r d σ') : Fr poS σ σ' := by
  refine Fr.trans ?_ (QueR_Fr _ _ _ _ h.1)
  refine Fr.trans ?_ (((inQ_ok 3 (Nat.le_refl _)).1).sub inS_po)
  exact (((((((((Fr.rf _ σ).A rfl _ _).A rfl _ _).A rfl _ _).A rfl _ _).A rfl _ _).A rfl _ _).A rfl _ _).A rfl _ _).S rfl _
/-- what holds between calls, of letters and trays -/
def GI (R : Nat → Rl) (σ : TS) (n : Nat) : Prop := σ.1 25 = nI n ∧ n ≤ 200 ∧ (∀ l, l < n → rowOk σ l) ∧ (∀ j : Nat, σ.2 34 j = 0 ∨ σ.2 34 j = 1) ∧ (∀ b, b < 3 → 1 ≤ (σ.2 8 b).toInt) ∧ (∀ t, t < 12 → 0 ≤ (σ.2 40 t).toInt ∧ (σ.2 40 t).toInt ≤ 215) ∧ ∀ b, b < 3 → RV σ b (R b)
theorem PostR.GI {R : Nat → Rl} {n : Nat} {σ σ' : TS} {f t w s g i r d : Int32} (h : PostR R n σ f t w s g i r d σ') : ∃ n', GI R σ' n' := by
  obtain ⟨-, k, n', q48, qk, q25, ql0, qpot, qlet, q190, qent, qrow, qhad, qday, qcnt, qRV⟩ := h
  exact ⟨n', q25, by omega, qrow, qhad, qday, fun t ht => by have := qcnt t ht; omega, qRV⟩
abbrev fullP (σ : TS) : Prop := 180 < (l_sum (σ.2 40) 12).toInt ∨ 190 < (σ.1 25).toInt
def lat (σ : TS) : Int32 := if (σ.1 25).toInt = 0 then 0 else σ.2 33 (Int32.toNatClampNeg (σ.1 25 - 1))
theorem sum_ok {f : Nat → Int32} (h : ∀ t, t < 12 → 0 ≤ (f t).toInt ∧ (f t).toInt ≤ 300) : ∀ n, n ≤ 12 → 0 ≤ (l_sum f n).toInt ∧ (l_sum f n).toInt ≤ 300 * n ∧ ∀ t, t < n → (f t).toInt ≤ (l_sum f n).toInt
  | 0, _ => ⟨(by decide : (0 : Int) ≤ (0 : Int32).toInt), (by decide : (0 : Int32).toInt ≤ 300 * ((0 : Nat) : Int)), fun t ht => absurd ht (Nat.not_lt_zero _)⟩
  | n + 1, hn => by
    obtain ⟨i1, i2, i3⟩ := sum_ok h n (by omega)
    have h1 := h n (by omega)
    have e : (l_sum f (n + 1)).toInt = (l_sum f n).toInt + (f n).toInt := i32_add (by omega) (by omega)
    rw [e]
    refine ⟨by omega, by omega, fun t ht => ?_⟩
    rcases (by omega : t < n ∨ t = n) with z | z
    · have := i3 t z; omega
    · subst z; omega
theorem GI.PI {R : Nat → Rl} {σ : TS} {n : Nat} (h : GI R σ n) (hf : ¬ fullP σ) : PI R σ n := by
  obtain ⟨h25, h200, hrow, hhad, hday, hcnt, hRV⟩ := h
  have hs := sum_ok (f := σ.2 40) (fun t ht => by have := hcnt t ht; omega) 12 (Nat.le_refl _)
  have e : (σ.1 25).toInt = n := by rw [h25]; exact nI_toInt (by omega)
  exact ⟨h25, by omega, hrow, hhad, hday, fun t ht => by have := hcnt t ht; have := hs.2.2 t ht; omega, hRV⟩
theorem GI.S {R : Nat → Rl} {σ : TS} {n : Nat} (h : GI R σ n) (v : Int32) : GI R (tS σ 44 v) n := h
theorem mX8_post {E : gE} {θ : TA} (hθ : tOk θ) {σ : TS} {R : Nat → Rl} {n : Nat} (hG : GI R σ n) {f t w s g i r d : Int32} : TMi E θ σ yX8_post cX8_post 9 .int 5 [.int f, .int t, .int w, .int s, .int g, .int i, .int r, .int d] (fun z σ' => if goodL f t w s g i r d then (if d.toInt < (lat σ).toInt then z = -2 ∧ σ' = σ else if fullP σ then z = -3 ∧ σ' = σ else PostR R n (tS σ 44 0) f t w s g i r d σ' ∧ z = σ'.1 44) else z = -1 ∧ σ' = σ) := by
  refine TMi.of (by decide) (Nat.le_of_ble_eq_true rfl) ?_
  rintro κ rfl hL hκ hr
  have e25 : (σ.1 25).toInt = n := by rw [hG.1]; exact nI_toInt (by have := hG.2.1; omega)
  have h200 := hG.2.1
  refine x_iload_n hκ dX8_post_0 rfl ?_
  refine x_iload_n hκ dX8_post_1 rfl ?_
  refine x_iload_n hκ dX8_post_2 rfl ?_
  refine x_iload hκ dX8_post_3 rfl ?_
  refine x_iload hκ dX8_post_5 rfl ?_
  refine x_iload hκ dX8_post_7 rfl ?_
  refine x_iload hκ dX8_post_9 rfl ?_
  refine x_iload hκ dX8_post_11 rfl ?_
  refine x_callSi hκ mX8_isGood (by omega) (by decide) wX8_291 aX8_isGood rfl (Nat.le_of_ble_eq_true rfl) dX8_post_13 (fun r13 h13 => ?_)
  refine x_if_ne (tgt := 21) hκ dX8_post_16 (by decide) (fun c16 => ?_) (fun c16 => ?_)
  · -- X8_post 16T
    have i16 := h13.t c16
    try simp only [Int32.reduceToInt] at i16
    refine x_iload hκ dX8_post_21 rfl ?_
    refine x_aload_n hκ dX8_post_23 rfl ?_
    refine t_callR hκ (mX8_latest hθ (by omega)) (by omega) (by decide) wX8_295 aX8_latest rfl (Nat.le_of_ble_eq_true rfl) dX8_post_24 (fun r24 h24 => ?_)
    have h24' : r24 = lat σ := h24
    subst h24'
    refine x_icmp_ge (tgt := 33) hκ dX8_post_27 (by decide) (fun c27 => ?_) (fun c27 => ?_)
    · -- X8_post 27T
      have i27 := c27
      simp (disch := omega) only [i32_lt, i32_le, i32_eq, Int32.reduceToInt, nI_toInt] at i27
      refine x_aload_n hκ dX8_post_33 rfl ?_
      refine t_callR hκ (mX8_isFull hθ) (by omega) (by decide) wX8_298 aX8_isFull rfl (Nat.le_of_ble_eq_true rfl) dX8_post_34 (fun r34 h34 => ?_)
      refine x_if_eq (tgt := 43) hκ dX8_post_37 (by decide) (fun c37 => ?_) (fun c37 => ?_)
      · -- X8_post 37T
        have i37 := h34.f c37
        try simp only [Int32.reduceToInt] at i37
        have hPI := hG.PI i37
        refine x_aload_n hκ dX8_post_43 rfl ?_
        refine x_iconst (v := 0) hκ dX8_post_44 (by decide) ?_
        refine t_put hκ fl8_44 (by decide) (by decide) rfl rfl rfl dX8_post_45 ?_
        refine x_aload_n hκ dX8_post_48 rfl ?_
        refine x_iload_n hκ dX8_post_49 rfl ?_
        refine x_iload_n hκ dX8_post_50 rfl ?_
        refine x_iload_n hκ dX8_post_51 rfl ?_
        refine x_iload hκ dX8_post_52 rfl ?_
        refine x_iload hκ dX8_post_54 rfl ?_
        refine x_iload hκ dX8_post_56 rfl ?_
        refine x_iload hκ dX8_post_58 rfl ?_
        refine x_iload hκ dX8_post_60 rfl ?_
        refine t_callv hκ (mX8_posted hθ (R := R) (n := n) (by exact hPI) i16.1.1 i16.2.2.2.1 i16.2.2.2.2.1.2) (by omega) (by decide) wX8_302 aX8_posted rfl (Nat.le_of_ble_eq_true rfl) dX8_post_62 (fun σ62 h62 => ?_)
        refine x_aload_n hκ dX8_post_65 rfl ?_
        refine t_get hκ fl8_44 (by decide) (by decide) rfl (by (try simp (disch := omega) only [tS_1, tS_2, tA_1, tA_2, tF_1, tF_2, xl_0, xl_1, xl_2, Nat.reduceEqDiff, ↓reduceIte, nI_add, nI_1, nm_2, nm_3, nm_4, nm_6, nm_7, nm_8, nm_12, nm_16, nm_24, nm_40, nm_180, nm_300, nm_10210, na_0, na_2, na_3, na_4, na_5, na_6, na_7, na_8, nm_p, nm_m, nI_clamp]); exact rfl) dX8_post_66 ?_
        refine t_reti hκ hr rfl dX8_post_69 ?_
        rw [if_pos i16, if_neg (by omega), if_neg i37]
        exact ⟨h62, rfl⟩
      · -- X8_post 37F
        have i37 := h34.t c37
        try simp only [Int32.reduceToInt] at i37
        refine x_bipush (v := (-3)) hκ dX8_post_40 (by decide) ?_
        refine t_reti hκ hr rfl dX8_post_42 ?_
        rw [if_pos i16, if_neg (by omega), if_pos i37]
        exact ⟨rfl, rfl⟩
    · -- X8_post 27F
      have i27 := c27
      simp (disch := omega) only [i32_lt, i32_le, i32_eq, Int32.reduceToInt, nI_toInt] at i27
      refine x_bipush (v := (-2)) hκ dX8_post_30 (by decide) ?_
      refine t_reti hκ hr rfl dX8_post_32 ?_
      rw [if_pos i16, if_pos (by omega)]
      exact ⟨rfl, rfl⟩
  · -- X8_post 16F
    have i16 := h13.f c16
    try simp only [Int32.reduceToInt] at i16
    refine x_iconst (v := (-1)) hκ dX8_post_19 (by decide) ?_
    refine t_reti hκ hr rfl dX8_post_20 ?_
    rw [if_neg i16]
    exact ⟨rfl, rfl⟩
/-- the k-th item of a sheet's rows from a on -/
abbrev itG (σ : TS) (a : Nat) : Prop := goodL (σ.2 56 a) (σ.2 56 (a + 1)) (σ.2 56 (a + 2)) (σ.2 56 (a + 3)) (σ.2 56 (a + 4)) (σ.2 56 (a + 5)) (σ.2 56 (a + 6)) (σ.2 56 (a + 7))
def prv (σ : TS) (a j : Nat) : Int32 := if j = 0 then lat σ else σ.2 56 (a + 8 * (j - 1) + 7)
/-- the j-th row from a on can be posted -/
def rowG (σ : TS) (a j : Nat) : Prop := itG σ (a + 8 * j) ∧ ¬ (σ.2 56 (a + 8 * j + 7)).toInt < (prv σ a j).toInt
def PostsR (R : Nat → Rl) (a : Nat) : Nat → Nat → TS → Int32 → TS → Prop
  | 0, _, σ, z, σ' => z = σ.1 44 ∧ σ' = σ
  | m + 1, j, σ, z, σ' => if fullP σ then z = -3 ∧ σ' = σ else ∃ σ1 : TS, PostR R (Int32.toNatClampNeg (σ.1 25)) σ (σ.2 56 (a + 8 * j)) (σ.2 56 (a + 8 * j + 1)) (σ.2 56 (a + 8 * j + 2)) (σ.2 56 (a + 8 * j + 3)) (σ.2 56 (a + 8 * j + 4)) (σ.2 56 (a + 8 * j + 5)) (σ.2 56 (a + 8 * j + 6)) (σ.2 56 (a + 8 * j + 7)) σ1 ∧ PostsR R a m (j + 1) σ1 z σ'
theorem i64_bm {z : Int} (h1 : -9223372036854775808 ≤ z) (h2 : z < 9223372036854775808) : z.bmod (2 ^ 64) = z := by
  rw [Int.bmod_def]
  split <;> omega
theorem l_gt {i n k : Int32} (hn : 0 ≤ n.toInt ∧ n.toInt ≤ 5) : k.toInt64 < i.toInt64 + (8 * n).toInt64 ↔ k.toInt < i.toInt + 8 * n.toInt := by
  have h1 := i32_rg i
  have e : (8 * n).toInt = 8 * n.toInt := by
    rw [Int32.toInt_mul]
    simp only [Int32.reduceToInt]
    exact i32_bm (by omega) (by omega)
  rw [Int64.lt_iff_toInt_lt, Int64.toInt_add, Int32.toInt_toInt64, Int32.toInt_toInt64, Int32.toInt_toInt64, e, i64_bm (by omega) (by omega)]
theorem mX8_posts {E : gE} {θ : TA} (hθ : tOk θ) {σ : TS} {R : Nat → Rl} {n0 : Nat} (hG : GI R σ n0) (hlg : ∀ s : Nat, s < 2 → 0 ≤ (σ.2 55 s).toInt ∧ (σ.2 55 s).toInt ≤ 40) {s l i n : Int32} : TMi E θ σ yX8_posts cX8_posts 9 .int 5 [.int s, .int l, .int i, .int n] (fun z σ' => if (0 ≤ s.toInt ∧ s.toInt ≤ 1) ∧ (0 ≤ l.toInt ∧ l.toInt ≤ 1) ∧ 0 ≤ n.toInt ∧ n.toInt ≤ 5 then (if (σ.2 54 (Int32.toNatClampNeg s)).toInt < 0 then z = -11 ∧ σ' = σ else if σ.2 54 (Int32.toNatClampNeg s) = l then (if 0 ≤ i.toInt ∧ i.toInt + 8 * n.toInt ≤ (σ.2 55 (Int32.toNatClampNeg s)).toInt then ((∀ j, j < Int32.toNatClampNeg n → rowG σ (40 * Int32.toNatClampNeg s + Int32.toNatClampNeg i) j) → PostsR R (40 * Int32.toNatClampNeg s + Int32.toNatClampNeg i) (Int32.toNatClampNeg n) 0 (tS σ 44 0) z σ') ∧ (¬ (∀ j, j < Int32.toNatClampNeg n → rowG σ (40 * Int32.toNatClampNeg s + Int32.toNatClampNeg i) j) → z = -2 ∧ σ' = σ) else z = -13 ∧ σ' = σ) else z = -12 ∧ σ' = σ) else z = -1 ∧ σ' = σ) := by
  refine TMi.of (by decide) (Nat.le_of_ble_eq_true rfl) ?_
  rintro κ rfl hL hκ hr
  have e25 : (σ.1 25).toInt = n0 := by rw [hG.1]; exact nI_toInt (by have := hG.2.1; omega)
  have h200 := hG.2.1
  refine x_iload_n hκ dX8_posts_0 rfl ?_
  refine x_callSi hκ mX8_isSheet (by omega) (by decide) wX8_305 aX8_isSheet rfl (Nat.le_of_ble_eq_true rfl) dX8_posts_1 (fun r1 h1 => ?_)
  refine x_if_eq (tgt := 26) hκ dX8_posts_4 (by decide) (fun c4 => ?_) (fun c4 => ?_)
  · -- X8_posts 4T
    have i4 := h1.f c4
    try simp only [Int32.reduceToInt] at i4
    refine x_iconst (v := (-1)) hκ dX8_posts_26 (by decide) ?_
    refine t_reti hκ hr rfl dX8_posts_27 ?_
    rw [if_neg (by omega)]
    exact ⟨rfl, rfl⟩
  · -- X8_posts 4F
    have i4 := h1.t c4
    try simp only [Int32.reduceToInt] at i4
    refine x_iload_n hκ dX8_posts_7 rfl ?_
    refine x_iconst (v := 0) hκ dX8_posts_8 (by decide) ?_
    refine x_iconst (v := 1) hκ dX8_posts_9 (by decide) ?_
    refine x_callSi hκ mX8_in (by omega) (by decide) wX8_122 aX8_in rfl (Nat.le_of_ble_eq_true rfl) dX8_posts_10 (fun r10 h10 => ?_)
    refine x_if_eq (tgt := 26) hκ dX8_posts_13 (by decide) (fun c13 => ?_) (fun c13 => ?_)
    · -- X8_posts 13T
      have i13 := h10.f c13
      try simp only [Int32.reduceToInt] at i13
      refine x_iconst (v := (-1)) hκ dX8_posts_26 (by decide) ?_
      refine t_reti hκ hr rfl dX8_posts_27 ?_
      rw [if_neg (by omega)]
      exact ⟨rfl, rfl⟩
    · -- X8_posts 13F
      have i13 := h10.t c13
      try simp only [Int32.reduceToInt] at i13
      refine x_iload hκ dX8_posts_16 rfl ?_
      refine x_iconst (v := 0) hκ dX8_posts_18 (by decide) ?_
      refine x_iconst (v := 5) hκ dX8_posts_19 (by decide) ?_
      refine x_callSi hκ mX8_in (by omega) (by decide) wX8_122 aX8_in rfl (Nat.le_of_ble_eq_true rfl) dX8_posts_20 (fun r20 h20 => ?_)
      refine x_if_ne (tgt := 28) hκ dX8_posts_23 (by decide) (fun c23 => ?_) (fun c23 => ?_)
      · -- X8_posts 23T
        have i23 := h20.t c23
        try simp only [Int32.reduceToInt] at i23
        refine x_aload_n hκ dX8_posts_28 rfl ?_
        refine t_getA hκ fl8_54 (by decide) (by decide) rfl dX8_posts_29 ?_
        refine x_iload_n hκ dX8_posts_32 rfl ?_
        refine t_iald (n := 2) hκ hθ (by decide) rfl rfl (by first | ((with_reducible refine vp_in_nI ?_ ?_) <;> omega) | exact i32_in (by omega) (by omega) | exact i32_in' (by simp only [Int32.toInt_add, Int32.toInt_mul, Int32.toInt_sub, Int32.reduceToInt, Int.bmod_add_bmod, Int.bmod_sub_bmod, Int.add_bmod_bmod, Int.sub_bmod_bmod, Int.bmod_mul_bmod, Int.mul_bmod_bmod]; exact i32_bm (by omega) (by omega)) (by omega) (by omega) | exact i32_in (by decide) (by decide)) (by (try simp (disch := omega) only [tS_1, tS_2, tA_1, tA_2, tF_1, tF_2, xl_0, xl_1, xl_2, Nat.reduceEqDiff, ↓reduceIte, nI_add, nI_1, nm_2, nm_3, nm_4, nm_6, nm_7, nm_8, nm_12, nm_16, nm_24, nm_40, nm_180, nm_300, nm_10210, na_0, na_2, na_3, na_4, na_5, na_6, na_7, na_8, nm_p, nm_m, nI_clamp]); exact rfl) dX8_posts_33 ?_
        refine x_if_ge (tgt := 40) hκ dX8_posts_34 (by decide) (fun c34 => ?_) (fun c34 => ?_)
        · -- X8_posts 34T
          have i34 := c34
          simp (disch := omega) only [i32_lt, i32_le, i32_eq, Int32.reduceToInt, nI_toInt] at i34
          refine x_aload_n hκ dX8_posts_40 rfl ?_
          refine t_getA hκ fl8_54 (by decide) (by decide) rfl dX8_posts_41 ?_
          refine x_iload_n hκ dX8_posts_44 rfl ?_
          refine t_iald (n := 2) hκ hθ (by decide) rfl rfl (by first | ((with_reducible refine vp_in_nI ?_ ?_) <;> omega) | exact i32_in (by omega) (by omega) | exact i32_in' (by simp only [Int32.toInt_add, Int32.toInt_mul, Int32.toInt_sub, Int32.reduceToInt, Int.bmod_add_bmod, Int.bmod_sub_bmod, Int.add_bmod_bmod, Int.sub_bmod_bmod, Int.bmod_mul_bmod, Int.mul_bmod_bmod]; exact i32_bm (by omega) (by omega)) (by omega) (by omega) | exact i32_in (by decide) (by decide)) (by (try simp (disch := omega) only [tS_1, tS_2, tA_1, tA_2, tF_1, tF_2, xl_0, xl_1, xl_2, Nat.reduceEqDiff, ↓reduceIte, nI_add, nI_1, nm_2, nm_3, nm_4, nm_6, nm_7, nm_8, nm_12, nm_16, nm_24, nm_40, nm_180, nm_300, nm_10210, na_0, na_2, na_3, na_4, na_5, na_6, na_7, na_8, nm_p, nm_m, nI_clamp]); exact rfl) dX8_posts_45 ?_
          refine x_iload_n hκ dX8_posts_46 rfl ?_
          refine x_icmp_eq (tgt := 53) hκ dX8_posts_47 (by decide) (fun c47 => ?_) (fun c47 => ?_)
          · -- X8_posts 47T
            have i47 := c47
            simp (disch := omega) only [i32_lt, i32_le, i32_eq, Int32.reduceToInt, nI_toInt] at i47
            refine x_iload_n hκ dX8_posts_53 rfl ?_
            refine x_if_lt (tgt := 77) hκ dX8_posts_54 (by decide) (fun c54 => ?_) (fun c54 => ?_)
            · -- X8_posts 54T
              have i54 := c54
              simp (disch := omega) only [i32_lt, i32_le, i32_eq, Int32.reduceToInt, nI_toInt] at i54
              
              refine x_bipush (v := (-13)) hκ dX8_posts_77 (by decide) ?_
              refine t_reti hκ hr rfl dX8_posts_79 ?_
              rw [if_pos (by omega), if_neg (by omega), if_pos c47, if_neg (by omega)]
              exact ⟨rfl, rfl⟩
            · -- X8_posts 54F
              have i54 := c54
              simp (disch := omega) only [i32_lt, i32_le, i32_eq, Int32.reduceToInt, nI_toInt] at i54
              refine x_iload_n hκ dX8_posts_57 rfl ?_
              refine x_i2l hκ dX8_posts_58 ?_
              refine x_bipush (v := 8) hκ dX8_posts_59 (by decide) ?_
              refine x_iload hκ dX8_posts_61 rfl ?_
              refine x_imul hκ dX8_posts_63 ?_
              refine x_i2l hκ dX8_posts_64 ?_
              refine x_ladd hκ dX8_posts_65 ?_
              refine x_aload_n hκ dX8_posts_66 rfl ?_
              refine t_getA hκ fl8_55 (by decide) (by decide) rfl dX8_posts_67 ?_
              refine x_iload_n hκ dX8_posts_70 rfl ?_
              refine t_iald (n := 2) hκ hθ (by decide) rfl rfl (by first | ((with_reducible refine vp_in_nI ?_ ?_) <;> omega) | exact i32_in (by omega) (by omega) | exact i32_in' (by simp only [Int32.toInt_add, Int32.toInt_mul, Int32.toInt_sub, Int32.reduceToInt, Int.bmod_add_bmod, Int.bmod_sub_bmod, Int.add_bmod_bmod, Int.sub_bmod_bmod, Int.bmod_mul_bmod, Int.mul_bmod_bmod]; exact i32_bm (by omega) (by omega)) (by omega) (by omega) | exact i32_in (by decide) (by decide)) (by (try simp (disch := omega) only [tS_1, tS_2, tA_1, tA_2, tF_1, tF_2, xl_0, xl_1, xl_2, Nat.reduceEqDiff, ↓reduceIte, nI_add, nI_1, nm_2, nm_3, nm_4, nm_6, nm_7, nm_8, nm_12, nm_16, nm_24, nm_40, nm_180, nm_300, nm_10210, na_0, na_2, na_3, na_4, na_5, na_6, na_7, na_8, nm_p, nm_m, nI_clamp]); exact rfl) dX8_posts_71 ?_
              refine x_i2l hκ dX8_posts_72 ?_
              refine x_lcmp hκ dX8_posts_73 ?_
              refine x_if_le (tgt := 80) hκ dX8_posts_74 (by decide) (fun c74 => ?_) (fun c74 => ?_)
              · -- X8_posts 74T
                have i74 := c74
                simp (disch := omega) only [i32_lt, i32_le, i32_eq, Int32.reduceToInt, nI_toInt] at i74
                have c74' : ¬ (σ.2 55 (Int32.toNatClampNeg s)).toInt < i.toInt + 8 * n.toInt := fun z => (lg_pos.mpr ((l_gt i23).mpr z)) c74
                have hl40 := hlg (Int32.toNatClampNeg s) (by show s.toInt.toNat < 2; omega)
                have fin : ∀ (z : Int32) (σ' : TS), (((∀ j, j < Int32.toNatClampNeg n → rowG σ (40 * Int32.toNatClampNeg s + Int32.toNatClampNeg i) j) → PostsR R (40 * Int32.toNatClampNeg s + Int32.toNatClampNeg i) (Int32.toNatClampNeg n) 0 (tS σ 44 0) z σ') ∧ (¬ (∀ j, j < Int32.toNatClampNeg n → rowG σ (40 * Int32.toNatClampNeg s + Int32.toNatClampNeg i) j) → z = -2 ∧ σ' = σ)) → (if (0 ≤ s.toInt ∧ s.toInt ≤ 1) ∧ (0 ≤ l.toInt ∧ l.toInt ≤ 1) ∧ 0 ≤ n.toInt ∧ n.toInt ≤ 5 then (if (σ.2 54 (Int32.toNatClampNeg s)).toInt < 0 then z = -11 ∧ σ' = σ else if σ.2 54 (Int32.toNatClampNeg s) = l then (if 0 ≤ i.toInt ∧ i.toInt + 8 * n.toInt ≤ (σ.2 55 (Int32.toNatClampNeg s)).toInt then ((∀ j, j < Int32.toNatClampNeg n → rowG σ (40 * Int32.toNatClampNeg s + Int32.toNatClampNeg i) j) → PostsR R (40 * Int32.toNatClampNeg s + Int32.toNatClampNeg i) (Int32.toNatClampNeg n) 0 (tS σ 44 0) z σ') ∧ (¬ (∀ j, j < Int32.toNatClampNeg n → rowG σ (40 * Int32.toNatClampNeg s + Int32.toNatClampNeg i) j) → z = -2 ∧ σ' = σ) else z = -13 ∧ σ' = σ) else z = -12 ∧ σ' = σ) else z = -1 ∧ σ' = σ) := fun z σ' h => by
                  rw [if_pos (by omega), if_neg (by omega), if_pos c47, if_pos (by omega)]
                  exact h
                have lim : i.toInt + 8 * n.toInt ≤ 40 := by omega
                obtain ⟨s', hs', es⟩ : ∃ x : Nat, x < 2 ∧ s = nI x := ⟨Int32.toNatClampNeg s, by show s.toInt.toNat < 2; omega, i32_nI (by omega)⟩
                obtain ⟨i', hi', ei⟩ : ∃ x : Nat, x ≤ 40 ∧ i = nI x := ⟨Int32.toNatClampNeg i, by show i.toInt.toNat ≤ 40; omega, i32_nI (by omega)⟩
                obtain ⟨m, hm, en⟩ : ∃ x : Nat, x ≤ 5 ∧ n = nI x := ⟨Int32.toNatClampNeg n, by show n.toInt.toNat ≤ 5; omega, i32_nI (by omega)⟩
                have xs : Int32.toNatClampNeg s = s' := by rw [es]; exact nI_clamp (by omega)
                have xi : Int32.toNatClampNeg i = i' := by rw [ei]; exact nI_clamp (by omega)
                have xn : Int32.toNatClampNeg n = m := by rw [en]; exact nI_clamp (by omega)
                have lim2 : i' + 8 * m ≤ 40 := by rw [ei, en, nI_toInt (by omega), nI_toInt (by omega)] at lim; omega
                clear c74 c74' c34 i34 i47 c54 i54 lim hl40
                rw [es, ei, en]
                have posting : (∀ j, j < m → rowG σ (40 * s' + i') j) → ∀ (q k nc : Nat) (σc : TS) (v5 : Int32) (o7 o8 : Option Value), loOk [some (.ref θ.1), some (.int (nI s')), some (.int l), some (.int (nI i')), some (.int (nI m)), some (.int v5), some (.int (nI k)), o7, o8] 8 = true → k ≤ m → m - k < q → σc.2 56 = σ.2 56 → GI R σc nc → (∀ z y, PostsR R (40 * s' + i') (m - k) k σc z y → PostsR R (40 * s' + i') m 0 (tS σ 44 0) z y) → X κ (tG (kE κ) θ σc) 0 0 236 [some (.ref θ.1), some (.int (nI s')), some (.int l), some (.int (nI i')), some (.int (nI m)), some (.int v5), some (.int (nI k)), o7, o8] [] := by
                  intro hall q
                  induction q with
                  | zero => intro k nc σc v5 o7 o8 _ h1 h2; exact absurd h2 (Nat.not_lt_zero _)
                  | succ q ih =>
                    intro k nc σc v5 o7 o8 hlo hk hq h56 hGc hy
                    have w25 : (σc.1 25).toInt = nc := by rw [hGc.1]; exact nI_toInt (by have := hGc.2.1; omega)
                    have x25 : Int32.toNatClampNeg (σc.1 25) = nc := by rw [hGc.1]; exact nI_clamp (by have := hGc.2.1; omega)
                    refine x_iload hκ dX8_posts_236 rfl ?_
                    refine x_iload hκ dX8_posts_238 rfl ?_
                    refine x_icmp_ge (tgt := 349) hκ dX8_posts_240 (by decide) (fun c240 => ?_) (fun c240 => ?_)
                    · -- X8_posts 240T
                      have i240 := c240
                      simp (disch := omega) only [i32_lt, i32_le, i32_eq, Int32.reduceToInt, nI_toInt] at i240
                      refine x_aload_n hκ dX8_posts_349 rfl ?_
                      refine t_get hκ fl8_44 (by decide) (by decide) rfl (by (try simp (disch := omega) only [tS_1, tS_2, tA_1, tA_2, tF_1, tF_2, xl_0, xl_1, xl_2, Nat.reduceEqDiff, ↓reduceIte, nI_add, nI_1, nm_2, nm_3, nm_4, nm_6, nm_7, nm_8, nm_12, nm_16, nm_24, nm_40, nm_180, nm_300, nm_10210, na_0, na_2, na_3, na_4, na_5, na_6, na_7, na_8, nm_p, nm_m, nI_clamp]); exact rfl) dX8_posts_350 ?_
                      refine t_reti hκ hr rfl dX8_posts_353 ?_
                      have hkm : k = m := by omega
                      subst hkm
                      refine fin _ _ ?_
                      rw [xs, xi, xn]
                      refine ⟨fun _ => hy _ _ ?_, fun z => absurd hall z⟩
                      rw [Nat.sub_self]
                      exact ⟨rfl, rfl⟩
                    · -- X8_posts 240F
                      have i240 := c240
                      simp (disch := omega) only [i32_lt, i32_le, i32_eq, Int32.reduceToInt, nI_toInt] at i240
                      refine x_bipush (v := 40) hκ dX8_posts_243 (by decide) ?_
                      refine x_iload_n hκ dX8_posts_245 rfl ?_
                      refine x_imulN hκ (by (try simp (disch := omega) only [tS_1, tS_2, tA_1, tA_2, tF_1, tF_2, xl_0, xl_1, xl_2, Nat.reduceEqDiff, ↓reduceIte, nI_add, nI_1, nm_2, nm_3, nm_4, nm_6, nm_7, nm_8, nm_12, nm_16, nm_24, nm_40, nm_180, nm_300, nm_10210, na_0, na_2, na_3, na_4, na_5, na_6, na_7, na_8, nm_p, nm_m, nI_clamp]); exact rfl) dX8_posts_246 ?_
                      refine x_iload_n hκ dX8_posts_247 rfl ?_
                      refine x_iaddN hκ (by (try simp (disch := omega) only [tS_1, tS_2, tA_1, tA_2, tF_1, tF_2, xl_0, xl_1, xl_2, Nat.reduceEqDiff, ↓reduceIte, nI_add, nI_1, nm_2, nm_3, nm_4, nm_6, nm_7, nm_8, nm_12, nm_16, nm_24, nm_40, nm_180, nm_300, nm_10210, na_0, na_2, na_3, na_4, na_5, na_6, na_7, na_8, nm_p, nm_m, nI_clamp]); exact rfl) dX8_posts_248 ?_
                      refine x_bipush (v := 8) hκ dX8_posts_249 (by decide) ?_
                      refine x_iload hκ dX8_posts_251 rfl ?_
                      refine x_imulN hκ (by (try simp (disch := omega) only [tS_1, tS_2, tA_1, tA_2, tF_1, tF_2, xl_0, xl_1, xl_2, Nat.reduceEqDiff, ↓reduceIte, nI_add, nI_1, nm_2, nm_3, nm_4, nm_6, nm_7, nm_8, nm_12, nm_16, nm_24, nm_40, nm_180, nm_300, nm_10210, na_0, na_2, na_3, na_4, na_5, na_6, na_7, na_8, nm_p, nm_m, nI_clamp]); exact rfl) dX8_posts_253 ?_
                      refine x_iaddN hκ (by (try simp (disch := omega) only [tS_1, tS_2, tA_1, tA_2, tF_1, tF_2, xl_0, xl_1, xl_2, Nat.reduceEqDiff, ↓reduceIte, nI_add, nI_1, nm_2, nm_3, nm_4, nm_6, nm_7, nm_8, nm_12, nm_16, nm_24, nm_40, nm_180, nm_300, nm_10210, na_0, na_2, na_3, na_4, na_5, na_6, na_7, na_8, nm_p, nm_m, nI_clamp]); exact rfl) dX8_posts_254 ?_
                      refine x_istore hκ dX8_posts_255 (by rw [hL]; decide) rfl ?_
                      refine x_aload_n hκ dX8_posts_257 rfl ?_
                      refine t_callR hκ (mX8_isFull hθ) (by omega) (by decide) wX8_298 aX8_isFull rfl (Nat.le_of_ble_eq_true rfl) dX8_posts_258 (fun r258 h258 => ?_)
                      refine x_if_eq (tgt := 267) hκ dX8_posts_261 (by decide) (fun c261 => ?_) (fun c261 => ?_)
                      · -- X8_posts 261T
                        have i261 := h258.f c261
                        try simp only [Int32.reduceToInt] at i261
                        have hPI := hGc.PI i261
                        have hrg := (hall k (by omega)).1
                        unfold itG at hrg
                        rw [← h56] at hrg
                        refine x_aload_n hκ dX8_posts_267 rfl ?_
                        refine x_aload_n hκ dX8_posts_268 rfl ?_
                        refine t_getA hκ fl8_56 (by decide) (by decide) rfl dX8_posts_269 ?_
                        refine x_iload hκ dX8_posts_272 rfl ?_
                        refine t_iald (n := 80) hκ hθ (by decide) rfl rfl (by first | ((with_reducible refine vp_in_nI ?_ ?_) <;> omega) | exact i32_in (by omega) (by omega) | exact i32_in' (by simp only [Int32.toInt_add, Int32.toInt_mul, Int32.toInt_sub, Int32.reduceToInt, Int.bmod_add_bmod, Int.bmod_sub_bmod, Int.add_bmod_bmod, Int.sub_bmod_bmod, Int.bmod_mul_bmod, Int.mul_bmod_bmod]; exact i32_bm (by omega) (by omega)) (by omega) (by omega) | exact i32_in (by decide) (by decide)) (by (try simp (disch := omega) only [tS_1, tS_2, tA_1, tA_2, tF_1, tF_2, xl_0, xl_1, xl_2, Nat.reduceEqDiff, ↓reduceIte, nI_add, nI_1, nm_2, nm_3, nm_4, nm_6, nm_7, nm_8, nm_12, nm_16, nm_24, nm_40, nm_180, nm_300, nm_10210, na_0, na_2, na_3, na_4, na_5, na_6, na_7, na_8, nm_p, nm_m, nI_clamp]); exact rfl) dX8_posts_274 ?_
                        refine x_aload_n hκ dX8_posts_275 rfl ?_
                        refine t_getA hκ fl8_56 (by decide) (by decide) rfl dX8_posts_276 ?_
                        refine x_iload hκ dX8_posts_279 rfl ?_
                        refine x_iconst (v := 1) hκ dX8_posts_281 (by decide) ?_
                        refine x_iaddN hκ (by (try simp (disch := omega) only [tS_1, tS_2, tA_1, tA_2, tF_1, tF_2, xl_0, xl_1, xl_2, Nat.reduceEqDiff, ↓reduceIte, nI_add, nI_1, nm_2, nm_3, nm_4, nm_6, nm_7, nm_8, nm_12, nm_16, nm_24, nm_40, nm_180, nm_300, nm_10210, na_0, na_2, na_3, na_4, na_5, na_6, na_7, na_8, nm_p, nm_m, nI_clamp]); exact rfl) dX8_posts_282 ?_
                        refine t_iald (n := 80) hκ hθ (by decide) rfl rfl (by first | ((with_reducible refine vp_in_nI ?_ ?_) <;> omega) | exact i32_in (by omega) (by omega) | exact i32_in' (by simp only [Int32.toInt_add, Int32.toInt_mul, Int32.toInt_sub, Int32.reduceToInt, Int.bmod_add_bmod, Int.bmod_sub_bmod, Int.add_bmod_bmod, Int.sub_bmod_bmod, Int.bmod_mul_bmod, Int.mul_bmod_bmod]; exact i32_bm (by omega) (by omega)) (by omega) (by omega) | exact i32_in (by decide) (by decide)) (by (try simp (disch := omega) only [tS_1, tS_2, tA_1, tA_2, tF_1, tF_2, xl_0, xl_1, xl_2, Nat.reduceEqDiff, ↓reduceIte, nI_add, nI_1, nm_2, nm_3, nm_4, nm_6, nm_7, nm_8, nm_12, nm_16, nm_24, nm_40, nm_180, nm_300, nm_10210, na_0, na_2, na_3, na_4, na_5, na_6, na_7, na_8, nm_p, nm_m, nI_clamp]); exact rfl) dX8_posts_283 ?_
                        refine x_aload_n hκ dX8_posts_284 rfl ?_
                        refine t_getA hκ fl8_56 (by decide) (by decide) rfl dX8_posts_285 ?_
                        refine x_iload hκ dX8_posts_288 rfl ?_
                        refine x_iconst (v := 2) hκ dX8_posts_290 (by decide) ?_
                        refine x_iaddN hκ (by (try simp (disch := omega) only [tS_1, tS_2, tA_1, tA_2, tF_1, tF_2, xl_0, xl_1, xl_2, Nat.reduceEqDiff, ↓reduceIte, nI_add, nI_1, nm_2, nm_3, nm_4, nm_6, nm_7, nm_8, nm_12, nm_16, nm_24, nm_40, nm_180, nm_300, nm_10210, na_0, na_2, na_3, na_4, na_5, na_6, na_7, na_8, nm_p, nm_m, nI_clamp]); exact rfl) dX8_posts_291 ?_
                        refine t_iald (n := 80) hκ hθ (by decide) rfl rfl (by first | ((with_reducible refine vp_in_nI ?_ ?_) <;> omega) | exact i32_in (by omega) (by omega) | exact i32_in' (by simp only [Int32.toInt_add, Int32.toInt_mul, Int32.toInt_sub, Int32.reduceToInt, Int.bmod_add_bmod, Int.bmod_sub_bmod, Int.add_bmod_bmod, Int.sub_bmod_bmod, Int.bmod_mul_bmod, Int.mul_bmod_bmod]; exact i32_bm (by omega) (by omega)) (by omega) (by omega) | exact i32_in (by decide) (by decide)) (by (try simp (disch := omega) only [tS_1, tS_2, tA_1, tA_2, tF_1, tF_2, xl_0, xl_1, xl_2, Nat.reduceEqDiff, ↓reduceIte, nI_add, nI_1, nm_2, nm_3, nm_4, nm_6, nm_7, nm_8, nm_12, nm_16, nm_24, nm_40, nm_180, nm_300, nm_10210, na_0, na_2, na_3, na_4, na_5, na_6, na_7, na_8, nm_p, nm_m, nI_clamp]); exact rfl) dX8_posts_292 ?_
                        refine x_aload_n hκ dX8_posts_293 rfl ?_
                        refine t_getA hκ fl8_56 (by decide) (by decide) rfl dX8_posts_294 ?_
                        refine x_iload hκ dX8_posts_297 rfl ?_
                        refine x_iconst (v := 3) hκ dX8_posts_299 (by decide) ?_
                        refine x_iaddN hκ (by (try simp (disch := omega) only [tS_1, tS_2, tA_1, tA_2, tF_1, tF_2, xl_0, xl_1, xl_2, Nat.reduceEqDiff, ↓reduceIte, nI_add, nI_1, nm_2, nm_3, nm_4, nm_6, nm_7, nm_8, nm_12, nm_16, nm_24, nm_40, nm_180, nm_300, nm_10210, na_0, na_2, na_3, na_4, na_5, na_6, na_7, na_8, nm_p, nm_m, nI_clamp]); exact rfl) dX8_posts_300 ?_
                        refine t_iald (n := 80) hκ hθ (by decide) rfl rfl (by first | ((with_reducible refine vp_in_nI ?_ ?_) <;> omega) | exact i32_in (by omega) (by omega) | exact i32_in' (by simp only [Int32.toInt_add, Int32.toInt_mul, Int32.toInt_sub, Int32.reduceToInt, Int.bmod_add_bmod, Int.bmod_sub_bmod, Int.add_bmod_bmod, Int.sub_bmod_bmod, Int.bmod_mul_bmod, Int.mul_bmod_bmod]; exact i32_bm (by omega) (by omega)) (by omega) (by omega) | exact i32_in (by decide) (by decide)) (by (try simp (disch := omega) only [tS_1, tS_2, tA_1, tA_2, tF_1, tF_2, xl_0, xl_1, xl_2, Nat.reduceEqDiff, ↓reduceIte, nI_add, nI_1, nm_2, nm_3, nm_4, nm_6, nm_7, nm_8, nm_12, nm_16, nm_24, nm_40, nm_180, nm_300, nm_10210, na_0, na_2, na_3, na_4, na_5, na_6, na_7, na_8, nm_p, nm_m, nI_clamp]); exact rfl) dX8_posts_301 ?_
                        refine x_aload_n hκ dX8_posts_302 rfl ?_
                        refine t_getA hκ fl8_56 (by decide) (by decide) rfl dX8_posts_303 ?_
                        refine x_iload hκ dX8_posts_306 rfl ?_
                        refine x_iconst (v := 4) hκ dX8_posts_308 (by decide) ?_
                        refine x_iaddN hκ (by (try simp (disch := omega) only [tS_1, tS_2, tA_1, tA_2, tF_1, tF_2, xl_0, xl_1, xl_2, Nat.reduceEqDiff, ↓reduceIte, nI_add, nI_1, nm_2, nm_3, nm_4, nm_6, nm_7, nm_8, nm_12, nm_16, nm_24, nm_40, nm_180, nm_300, nm_10210, na_0, na_2, na_3, na_4, na_5, na_6, na_7, na_8, nm_p, nm_m, nI_clamp]); exact rfl) dX8_posts_309 ?_
                        refine t_iald (n := 80) hκ hθ (by decide) rfl rfl (by first | ((with_reducible refine vp_in_nI ?_ ?_) <;> omega) | exact i32_in (by omega) (by omega) | exact i32_in' (by simp only [Int32.toInt_add, Int32.toInt_mul, Int32.toInt_sub, Int32.reduceToInt, Int.bmod_add_bmod, Int.bmod_sub_bmod, Int.add_bmod_bmod, Int.sub_bmod_bmod, Int.bmod_mul_bmod, Int.mul_bmod_bmod]; exact i32_bm (by omega) (by omega)) (by omega) (by omega) | exact i32_in (by decide) (by decide)) (by (try simp (disch := omega) only [tS_1, tS_2, tA_1, tA_2, tF_1, tF_2, xl_0, xl_1, xl_2, Nat.reduceEqDiff, ↓reduceIte, nI_add, nI_1, nm_2, nm_3, nm_4, nm_6, nm_7, nm_8, nm_12, nm_16, nm_24, nm_40, nm_180, nm_300, nm_10210, na_0, na_2, na_3, na_4, na_5, na_6, na_7, na_8, nm_p, nm_m, nI_clamp]); exact rfl) dX8_posts_310 ?_
                        refine x_aload_n hκ dX8_posts_311 rfl ?_
                        refine t_getA hκ fl8_56 (by decide) (by decide) rfl dX8_posts_312 ?_
                        refine x_iload hκ dX8_posts_315 rfl ?_
                        refine x_iconst (v := 5) hκ dX8_posts_317 (by decide) ?_
                        refine x_iaddN hκ (by (try simp (disch := omega) only [tS_1, tS_2, tA_1, tA_2, tF_1, tF_2, xl_0, xl_1, xl_2, Nat.reduceEqDiff, ↓reduceIte, nI_add, nI_1, nm_2, nm_3, nm_4, nm_6, nm_7, nm_8, nm_12, nm_16, nm_24, nm_40, nm_180, nm_300, nm_10210, na_0, na_2, na_3, na_4, na_5, na_6, na_7, na_8, nm_p, nm_m, nI_clamp]); exact rfl) dX8_posts_318 ?_
                        refine t_iald (n := 80) hκ hθ (by decide) rfl rfl (by first | ((with_reducible refine vp_in_nI ?_ ?_) <;> omega) | exact i32_in (by omega) (by omega) | exact i32_in' (by simp only [Int32.toInt_add, Int32.toInt_mul, Int32.toInt_sub, Int32.reduceToInt, Int.bmod_add_bmod, Int.bmod_sub_bmod, Int.add_bmod_bmod, Int.sub_bmod_bmod, Int.bmod_mul_bmod, Int.mul_bmod_bmod]; exact i32_bm (by omega) (by omega)) (by omega) (by omega) | exact i32_in (by decide) (by decide)) (by (try simp (disch := omega) only [tS_1, tS_2, tA_1, tA_2, tF_1, tF_2, xl_0, xl_1, xl_2, Nat.reduceEqDiff, ↓reduceIte, nI_add, nI_1, nm_2, nm_3, nm_4, nm_6, nm_7, nm_8, nm_12, nm_16, nm_24, nm_40, nm_180, nm_300, nm_10210, na_0, na_2, na_3, na_4, na_5, na_6, na_7, na_8, nm_p, nm_m, nI_clamp]); exact rfl) dX8_posts_319 ?_
                        refine x_aload_n hκ dX8_posts_320 rfl ?_
                        refine t_getA hκ fl8_56 (by decide) (by decide) rfl dX8_posts_321 ?_
                        refine x_iload hκ dX8_posts_324 rfl ?_
                        refine x_bipush (v := 6) hκ dX8_posts_326 (by decide) ?_
                        refine x_iaddN hκ (by (try simp (disch := omega) only [tS_1, tS_2, tA_1, tA_2, tF_1, tF_2, xl_0, xl_1, xl_2, Nat.reduceEqDiff, ↓reduceIte, nI_add, nI_1, nm_2, nm_3, nm_4, nm_6, nm_7, nm_8, nm_12, nm_16, nm_24, nm_40, nm_180, nm_300, nm_10210, na_0, na_2, na_3, na_4, na_5, na_6, na_7, na_8, nm_p, nm_m, nI_clamp]); exact rfl) dX8_posts_328 ?_
                        refine t_iald (n := 80) hκ hθ (by decide) rfl rfl (by first | ((with_reducible refine vp_in_nI ?_ ?_) <;> omega) | exact i32_in (by omega) (by omega) | exact i32_in' (by simp only [Int32.toInt_add, Int32.toInt_mul, Int32.toInt_sub, Int32.reduceToInt, Int.bmod_add_bmod, Int.bmod_sub_bmod, Int.add_bmod_bmod, Int.sub_bmod_bmod, Int.bmod_mul_bmod, Int.mul_bmod_bmod]; exact i32_bm (by omega) (by omega)) (by omega) (by omega) | exact i32_in (by decide) (by decide)) (by (try simp (disch := omega) only [tS_1, tS_2, tA_1, tA_2, tF_1, tF_2, xl_0, xl_1, xl_2, Nat.reduceEqDiff, ↓reduceIte, nI_add, nI_1, nm_2, nm_3, nm_4, nm_6, nm_7, nm_8, nm_12, nm_16, nm_24, nm_40, nm_180, nm_300, nm_10210, na_0, na_2, na_3, na_4, na_5, na_6, na_7, na_8, nm_p, nm_m, nI_clamp]); exact rfl) dX8_posts_329 ?_
                        refine x_aload_n hκ dX8_posts_330 rfl ?_
                        refine t_getA hκ fl8_56 (by decide) (by decide) rfl dX8_posts_331 ?_
                        refine x_iload hκ dX8_posts_334 rfl ?_
                        refine x_bipush (v := 7) hκ dX8_posts_336 (by decide) ?_
                        refine x_iaddN hκ (by (try simp (disch := omega) only [tS_1, tS_2, tA_1, tA_2, tF_1, tF_2, xl_0, xl_1, xl_2, Nat.reduceEqDiff, ↓reduceIte, nI_add, nI_1, nm_2, nm_3, nm_4, nm_6, nm_7, nm_8, nm_12, nm_16, nm_24, nm_40, nm_180, nm_300, nm_10210, na_0, na_2, na_3, na_4, na_5, na_6, na_7, na_8, nm_p, nm_m, nI_clamp]); exact rfl) dX8_posts_338 ?_
                        refine t_iald (n := 80) hκ hθ (by decide) rfl rfl (by first | ((with_reducible refine vp_in_nI ?_ ?_) <;> omega) | exact i32_in (by omega) (by omega) | exact i32_in' (by simp only [Int32.toInt_add, Int32.toInt_mul, Int32.toInt_sub, Int32.reduceToInt, Int.bmod_add_bmod, Int.bmod_sub_bmod, Int.add_bmod_bmod, Int.sub_bmod_bmod, Int.bmod_mul_bmod, Int.mul_bmod_bmod]; exact i32_bm (by omega) (by omega)) (by omega) (by omega) | exact i32_in (by decide) (by decide)) (by (try simp (disch := omega) only [tS_1, tS_2, tA_1, tA_2, tF_1, tF_2, xl_0, xl_1, xl_2, Nat.reduceEqDiff, ↓reduceIte, nI_add, nI_1, nm_2, nm_3, nm_4, nm_6, nm_7, nm_8, nm_12, nm_16, nm_24, nm_40, nm_180, nm_300, nm_10210, na_0, na_2, na_3, na_4, na_5, na_6, na_7, na_8, nm_p, nm_m, nI_clamp]); exact rfl) dX8_posts_339 ?_
                        refine t_callv hκ (mX8_posted hθ (R := R) (n := nc) hPI hrg.1.1 hrg.2.2.2.1 hrg.2.2.2.2.1.2) (by omega) (by decide) wX8_302 aX8_posted rfl (Nat.le_of_ble_eq_true rfl) dX8_posts_340 (fun σ340 h340 => ?_)
                        have hpr : PostR R nc σc (σc.2 56 (40 * s' + i' + 8 * k)) (σc.2 56 (40 * s' + i' + 8 * k + 1)) (σc.2 56 (40 * s' + i' + 8 * k + 2)) (σc.2 56 (40 * s' + i' + 8 * k + 3)) (σc.2 56 (40 * s' + i' + 8 * k + 4)) (σc.2 56 (40 * s' + i' + 8 * k + 5)) (σc.2 56 (40 * s' + i' + 8 * k + 6)) (σc.2 56 (40 * s' + i' + 8 * k + 7)) σ340 := h340
                        obtain ⟨nd, hGd⟩ := hpr.GI
                        refine x_iincN (y := 1) hκ dX8_posts_343 (by decide) rfl (by rw [hL]; decide) rfl (by (try simp (disch := omega) only [tS_1, tS_2, tA_1, tA_2, tF_1, tF_2, xl_0, xl_1, xl_2, Nat.reduceEqDiff, ↓reduceIte, nI_add, nI_1, nm_2, nm_3, nm_4, nm_6, nm_7, nm_8, nm_12, nm_16, nm_24, nm_40, nm_180, nm_300, nm_10210, na_0, na_2, na_3, na_4, na_5, na_6, na_7, na_8, nm_p, nm_m, nI_clamp]); exact rfl) ?_
                        refine x_goto (tgt := 236) hκ dX8_posts_346 (by decide) ?_
                        refine ih (k + 1) nd σ340 v5 _ _ rfl (by omega) (by omega) ((PostR_Fr hpr 56 rfl).2.trans h56) hGd (fun z y hz => hy z y ?_)
                        rw [show m - k = (m - (k + 1)) + 1 by omega, PostsR, if_neg i261, x25]
                        exact ⟨σ340, hpr, hz⟩
                      · -- X8_posts 261F
                        have i261 := h258.t c261
                        try simp only [Int32.reduceToInt] at i261
                        refine x_bipush (v := (-3)) hκ dX8_posts_264 (by decide) ?_
                        refine t_reti hκ hr rfl dX8_posts_266 ?_
                        refine fin _ _ ?_
                        rw [xs, xi, xn]
                        refine ⟨fun _ => hy _ _ ?_, fun z => absurd hall z⟩
                        rw [show m - k = (m - (k + 1)) + 1 by omega, PostsR, if_pos i261]
                        exact ⟨rfl, rfl⟩
                have checking : ∀ (q k : Nat) (o7 o8 : Option Value), loOk [some (.ref θ.1), some (.int (nI s')), some (.int l), some (.int (nI i')), some (.int (nI m)), some (.int (prv σ (40 * s' + i') k)), some (.int (nI k)), o7, o8] 8 = true → k ≤ m → m - k < q → (∀ j, j < k → rowG σ (40 * s' + i') j) → X κ (tG (kE κ) θ σ) 0 0 89 [some (.ref θ.1), some (.int (nI s')), some (.int l), some (.int (nI i')), some (.int (nI m)), some (.int (prv σ (40 * s' + i') k)), some (.int (nI k)), o7, o8] [] := by
                  intro q
                  induction q with
                  | zero => intro k o7 o8 _ h1 h2; exact absurd h2 (Nat.not_lt_zero _)
                  | succ q ih =>
                    intro k o7 o8 hlo hk hq hdone
                    refine x_iload hκ dX8_posts_89 rfl ?_
                    refine x_iload hκ dX8_posts_91 rfl ?_
                    refine x_icmp_ge (tgt := 228) hκ dX8_posts_93 (by decide) (fun c93 => ?_) (fun c93 => ?_)
                    · -- X8_posts 93T
                      have i93 := c93
                      simp (disch := omega) only [i32_lt, i32_le, i32_eq, Int32.reduceToInt, nI_toInt] at i93
                      refine x_aload_n hκ dX8_posts_228 rfl ?_
                      refine x_iconst (v := 0) hκ dX8_posts_229 (by decide) ?_
                      refine t_put hκ fl8_44 (by decide) (by decide) rfl rfl rfl dX8_posts_230 ?_
                      refine x_iconst (v := 0) hκ dX8_posts_233 (by decide) ?_
                      refine x_istore hκ dX8_posts_234 (by rw [hL]; decide) rfl ?_
                      obtain rfl : k = m := by omega
                      exact posting hdone (k + 1) 0 n0 (tS σ 44 0) _ _ _ (by first | exact hlo | rfl) (Nat.zero_le _) (by omega) rfl hG (fun z y hz => hz)
                    · -- X8_posts 93F
                      have i93 := c93
                      simp (disch := omega) only [i32_lt, i32_le, i32_eq, Int32.reduceToInt, nI_toInt] at i93
                      refine x_bipush (v := 40) hκ dX8_posts_96 (by decide) ?_
                      refine x_iload_n hκ dX8_posts_98 rfl ?_
                      refine x_imulN hκ (by (try simp (disch := omega) only [tS_1, tS_2, tA_1, tA_2, tF_1, tF_2, xl_0, xl_1, xl_2, Nat.reduceEqDiff, ↓reduceIte, nI_add, nI_1, nm_2, nm_3, nm_4, nm_6, nm_7, nm_8, nm_12, nm_16, nm_24, nm_40, nm_180, nm_300, nm_10210, na_0, na_2, na_3, na_4, na_5, na_6, na_7, na_8, nm_p, nm_m, nI_clamp]); exact rfl) dX8_posts_99 ?_
                      refine x_iload_n hκ dX8_posts_100 rfl ?_
                      refine x_iaddN hκ (by (try simp (disch := omega) only [tS_1, tS_2, tA_1, tA_2, tF_1, tF_2, xl_0, xl_1, xl_2, Nat.reduceEqDiff, ↓reduceIte, nI_add, nI_1, nm_2, nm_3, nm_4, nm_6, nm_7, nm_8, nm_12, nm_16, nm_24, nm_40, nm_180, nm_300, nm_10210, na_0, na_2, na_3, na_4, na_5, na_6, na_7, na_8, nm_p, nm_m, nI_clamp]); exact rfl) dX8_posts_101 ?_
                      refine x_bipush (v := 8) hκ dX8_posts_102 (by decide) ?_
                      refine x_iload hκ dX8_posts_104 rfl ?_
                      refine x_imulN hκ (by (try simp (disch := omega) only [tS_1, tS_2, tA_1, tA_2, tF_1, tF_2, xl_0, xl_1, xl_2, Nat.reduceEqDiff, ↓reduceIte, nI_add, nI_1, nm_2, nm_3, nm_4, nm_6, nm_7, nm_8, nm_12, nm_16, nm_24, nm_40, nm_180, nm_300, nm_10210, na_0, na_2, na_3, na_4, na_5, na_6, na_7, na_8, nm_p, nm_m, nI_clamp]); exact rfl) dX8_posts_106 ?_
                      refine x_iaddN hκ (by (try simp (disch := omega) only [tS_1, tS_2, tA_1, tA_2, tF_1, tF_2, xl_0, xl_1, xl_2, Nat.reduceEqDiff, ↓reduceIte, nI_add, nI_1, nm_2, nm_3, nm_4, nm_6, nm_7, nm_8, nm_12, nm_16, nm_24, nm_40, nm_180, nm_300, nm_10210, na_0, na_2, na_3, na_4, na_5, na_6, na_7, na_8, nm_p, nm_m, nI_clamp]); exact rfl) dX8_posts_107 ?_
                      refine x_istore hκ dX8_posts_108 (by rw [hL]; decide) rfl ?_
                      refine x_aload_n hκ dX8_posts_110 rfl ?_
                      refine t_getA hκ fl8_56 (by decide) (by decide) rfl dX8_posts_111 ?_
                      refine x_iload hκ dX8_posts_114 rfl ?_
                      refine t_iald (n := 80) hκ hθ (by decide) rfl rfl (by first | ((with_reducible refine vp_in_nI ?_ ?_) <;> omega) | exact i32_in (by omega) (by omega) | exact i32_in' (by simp only [Int32.toInt_add, Int32.toInt_mul, Int32.toInt_sub, Int32.reduceToInt, Int.bmod_add_bmod, Int.bmod_sub_bmod, Int.add_bmod_bmod, Int.sub_bmod_bmod, Int.bmod_mul_bmod, Int.mul_bmod_bmod]; exact i32_bm (by omega) (by omega)) (by omega) (by omega) | exact i32_in (by decide) (by decide)) (by (try simp (disch := omega) only [tS_1, tS_2, tA_1, tA_2, tF_1, tF_2, xl_0, xl_1, xl_2, Nat.reduceEqDiff, ↓reduceIte, nI_add, nI_1, nm_2, nm_3, nm_4, nm_6, nm_7, nm_8, nm_12, nm_16, nm_24, nm_40, nm_180, nm_300, nm_10210, na_0, na_2, na_3, na_4, na_5, na_6, na_7, na_8, nm_p, nm_m, nI_clamp]); exact rfl) dX8_posts_116 ?_
                      refine x_aload_n hκ dX8_posts_117 rfl ?_
                      refine t_getA hκ fl8_56 (by decide) (by decide) rfl dX8_posts_118 ?_
                      refine x_iload hκ dX8_posts_121 rfl ?_
                      refine x_iconst (v := 1) hκ dX8_posts_123 (by decide) ?_
                      refine x_iaddN hκ (by (try simp (disch := omega) only [tS_1, tS_2, tA_1, tA_2, tF_1, tF_2, xl_0, xl_1, xl_2, Nat.reduceEqDiff, ↓reduceIte, nI_add, nI_1, nm_2, nm_3, nm_4, nm_6, nm_7, nm_8, nm_12, nm_16, nm_24, nm_40, nm_180, nm_300, nm_10210, na_0, na_2, na_3, na_4, na_5, na_6, na_7, na_8, nm_p, nm_m, nI_clamp]); exact rfl) dX8_posts_124 ?_
                      refine t_iald (n := 80) hκ hθ (by decide) rfl rfl (by first | ((with_reducible refine vp_in_nI ?_ ?_) <;> omega) | exact i32_in (by omega) (by omega) | exact i32_in' (by simp only [Int32.toInt_add, Int32.toInt_mul, Int32.toInt_sub, Int32.reduceToInt, Int.bmod_add_bmod, Int.bmod_sub_bmod, Int.add_bmod_bmod, Int.sub_bmod_bmod, Int.bmod_mul_bmod, Int.mul_bmod_bmod]; exact i32_bm (by omega) (by omega)) (by omega) (by omega) | exact i32_in (by decide) (by decide)) (by (try simp (disch := omega) only [tS_1, tS_2, tA_1, tA_2, tF_1, tF_2, xl_0, xl_1, xl_2, Nat.reduceEqDiff, ↓reduceIte, nI_add, nI_1, nm_2, nm_3, nm_4, nm_6, nm_7, nm_8, nm_12, nm_16, nm_24, nm_40, nm_180, nm_300, nm_10210, na_0, na_2, na_3, na_4, na_5, na_6, na_7, na_8, nm_p, nm_m, nI_clamp]); exact rfl) dX8_posts_125 ?_
                      refine x_aload_n hκ dX8_posts_126 rfl ?_
                      refine t_getA hκ fl8_56 (by decide) (by decide) rfl dX8_posts_127 ?_
                      refine x_iload hκ dX8_posts_130 rfl ?_
                      refine x_iconst (v := 2) hκ dX8_posts_132 (by decide) ?_
                      refine x_iaddN hκ (by (try simp (disch := omega) only [tS_1, tS_2, tA_1, tA_2, tF_1, tF_2, xl_0, xl_1, xl_2, Nat.reduceEqDiff, ↓reduceIte, nI_add, nI_1, nm_2, nm_3, nm_4, nm_6, nm_7, nm_8, nm_12, nm_16, nm_24, nm_40, nm_180, nm_300, nm_10210, na_0, na_2, na_3, na_4, na_5, na_6, na_7, na_8, nm_p, nm_m, nI_clamp]); exact rfl) dX8_posts_133 ?_
                      refine t_iald (n := 80) hκ hθ (by decide) rfl rfl (by first | ((with_reducible refine vp_in_nI ?_ ?_) <;> omega) | exact i32_in (by omega) (by omega) | exact i32_in' (by simp only [Int32.toInt_add, Int32.toInt_mul, Int32.toInt_sub, Int32.reduceToInt, Int.bmod_add_bmod, Int.bmod_sub_bmod, Int.add_bmod_bmod, Int.sub_bmod_bmod, Int.bmod_mul_bmod, Int.mul_bmod_bmod]; exact i32_bm (by omega) (by omega)) (by omega) (by omega) | exact i32_in (by decide) (by decide)) (by (try simp (disch := omega) only [tS_1, tS_2, tA_1, tA_2, tF_1, tF_2, xl_0, xl_1, xl_2, Nat.reduceEqDiff, ↓reduceIte, nI_add, nI_1, nm_2, nm_3, nm_4, nm_6, nm_7, nm_8, nm_12, nm_16, nm_24, nm_40, nm_180, nm_300, nm_10210, na_0, na_2, na_3, na_4, na_5, na_6, na_7, na_8, nm_p, nm_m, nI_clamp]); exact rfl) dX8_posts_134 ?_
                      refine x_aload_n hκ dX8_posts_135 rfl ?_
                      refine t_getA hκ fl8_56 (by decide) (by decide) rfl dX8_posts_136 ?_
                      refine x_iload hκ dX8_posts_139 rfl ?_
                      refine x_iconst (v := 3) hκ dX8_posts_141 (by decide) ?_
                      refine x_iaddN hκ (by (try simp (disch := omega) only [tS_1, tS_2, tA_1, tA_2, tF_1, tF_2, xl_0, xl_1, xl_2, Nat.reduceEqDiff, ↓reduceIte, nI_add, nI_1, nm_2, nm_3, nm_4, nm_6, nm_7, nm_8, nm_12, nm_16, nm_24, nm_40, nm_180, nm_300, nm_10210, na_0, na_2, na_3, na_4, na_5, na_6, na_7, na_8, nm_p, nm_m, nI_clamp]); exact rfl) dX8_posts_142 ?_
                      refine t_iald (n := 80) hκ hθ (by decide) rfl rfl (by first | ((with_reducible refine vp_in_nI ?_ ?_) <;> omega) | exact i32_in (by omega) (by omega) | exact i32_in' (by simp only [Int32.toInt_add, Int32.toInt_mul, Int32.toInt_sub, Int32.reduceToInt, Int.bmod_add_bmod, Int.bmod_sub_bmod, Int.add_bmod_bmod, Int.sub_bmod_bmod, Int.bmod_mul_bmod, Int.mul_bmod_bmod]; exact i32_bm (by omega) (by omega)) (by omega) (by omega) | exact i32_in (by decide) (by decide)) (by (try simp (disch := omega) only [tS_1, tS_2, tA_1, tA_2, tF_1, tF_2, xl_0, xl_1, xl_2, Nat.reduceEqDiff, ↓reduceIte, nI_add, nI_1, nm_2, nm_3, nm_4, nm_6, nm_7, nm_8, nm_12, nm_16, nm_24, nm_40, nm_180, nm_300, nm_10210, na_0, na_2, na_3, na_4, na_5, na_6, na_7, na_8, nm_p, nm_m, nI_clamp]); exact rfl) dX8_posts_143 ?_
                      refine x_aload_n hκ dX8_posts_144 rfl ?_
                      refine t_getA hκ fl8_56 (by decide) (by decide) rfl dX8_posts_145 ?_
                      refine x_iload hκ dX8_posts_148 rfl ?_
                      refine x_iconst (v := 4) hκ dX8_posts_150 (by decide) ?_
                      refine x_iaddN hκ (by (try simp (disch := omega) only [tS_1, tS_2, tA_1, tA_2, tF_1, tF_2, xl_0, xl_1, xl_2, Nat.reduceEqDiff, ↓reduceIte, nI_add, nI_1, nm_2, nm_3, nm_4, nm_6, nm_7, nm_8, nm_12, nm_16, nm_24, nm_40, nm_180, nm_300, nm_10210, na_0, na_2, na_3, na_4, na_5, na_6, na_7, na_8, nm_p, nm_m, nI_clamp]); exact rfl) dX8_posts_151 ?_
                      refine t_iald (n := 80) hκ hθ (by decide) rfl rfl (by first | ((with_reducible refine vp_in_nI ?_ ?_) <;> omega) | exact i32_in (by omega) (by omega) | exact i32_in' (by simp only [Int32.toInt_add, Int32.toInt_mul, Int32.toInt_sub, Int32.reduceToInt, Int.bmod_add_bmod, Int.bmod_sub_bmod, Int.add_bmod_bmod, Int.sub_bmod_bmod, Int.bmod_mul_bmod, Int.mul_bmod_bmod]; exact i32_bm (by omega) (by omega)) (by omega) (by omega) | exact i32_in (by decide) (by decide)) (by (try simp (disch := omega) only [tS_1, tS_2, tA_1, tA_2, tF_1, tF_2, xl_0, xl_1, xl_2, Nat.reduceEqDiff, ↓reduceIte, nI_add, nI_1, nm_2, nm_3, nm_4, nm_6, nm_7, nm_8, nm_12, nm_16, nm_24, nm_40, nm_180, nm_300, nm_10210, na_0, na_2, na_3, na_4, na_5, na_6, na_7, na_8, nm_p, nm_m, nI_clamp]); exact rfl) dX8_posts_152 ?_
                      refine x_aload_n hκ dX8_posts_153 rfl ?_
                      refine t_getA hκ fl8_56 (by decide) (by decide) rfl dX8_posts_154 ?_
                      refine x_iload hκ dX8_posts_157 rfl ?_
                      refine x_iconst (v := 5) hκ dX8_posts_159 (by decide) ?_
                      refine x_iaddN hκ (by (try simp (disch := omega) only [tS_1, tS_2, tA_1, tA_2, tF_1, tF_2, xl_0, xl_1, xl_2, Nat.reduceEqDiff, ↓reduceIte, nI_add, nI_1, nm_2, nm_3, nm_4, nm_6, nm_7, nm_8, nm_12, nm_16, nm_24, nm_40, nm_180, nm_300, nm_10210, na_0, na_2, na_3, na_4, na_5, na_6, na_7, na_8, nm_p, nm_m, nI_clamp]); exact rfl) dX8_posts_160 ?_
                      refine t_iald (n := 80) hκ hθ (by decide) rfl rfl (by first | ((with_reducible refine vp_in_nI ?_ ?_) <;> omega) | exact i32_in (by omega) (by omega) | exact i32_in' (by simp only [Int32.toInt_add, Int32.toInt_mul, Int32.toInt_sub, Int32.reduceToInt, Int.bmod_add_bmod, Int.bmod_sub_bmod, Int.add_bmod_bmod, Int.sub_bmod_bmod, Int.bmod_mul_bmod, Int.mul_bmod_bmod]; exact i32_bm (by omega) (by omega)) (by omega) (by omega) | exact i32_in (by decide) (by decide)) (by (try simp (disch := omega) only [tS_1, tS_2, tA_1, tA_2, tF_1, tF_2, xl_0, xl_1, xl_2, Nat.reduceEqDiff, ↓reduceIte, nI_add, nI_1, nm_2, nm_3, nm_4, nm_6, nm_7, nm_8, nm_12, nm_16, nm_24, nm_40, nm_180, nm_300, nm_10210, na_0, na_2, na_3, na_4, na_5, na_6, na_7, na_8, nm_p, nm_m, nI_clamp]); exact rfl) dX8_posts_161 ?_
                      refine x_aload_n hκ dX8_posts_162 rfl ?_
                      refine t_getA hκ fl8_56 (by decide) (by decide) rfl dX8_posts_163 ?_
                      refine x_iload hκ dX8_posts_166 rfl ?_
                      refine x_bipush (v := 6) hκ dX8_posts_168 (by decide) ?_
                      refine x_iaddN hκ (by (try simp (disch := omega) only [tS_1, tS_2, tA_1, tA_2, tF_1, tF_2, xl_0, xl_1, xl_2, Nat.reduceEqDiff, ↓reduceIte, nI_add, nI_1, nm_2, nm_3, nm_4, nm_6, nm_7, nm_8, nm_12, nm_16, nm_24, nm_40, nm_180, nm_300, nm_10210, na_0, na_2, na_3, na_4, na_5, na_6, na_7, na_8, nm_p, nm_m, nI_clamp]); exact rfl) dX8_posts_170 ?_
                      refine t_iald (n := 80) hκ hθ (by decide) rfl rfl (by first | ((with_reducible refine vp_in_nI ?_ ?_) <;> omega) | exact i32_in (by omega) (by omega) | exact i32_in' (by simp only [Int32.toInt_add, Int32.toInt_mul, Int32.toInt_sub, Int32.reduceToInt, Int.bmod_add_bmod, Int.bmod_sub_bmod, Int.add_bmod_bmod, Int.sub_bmod_bmod, Int.bmod_mul_bmod, Int.mul_bmod_bmod]; exact i32_bm (by omega) (by omega)) (by omega) (by omega) | exact i32_in (by decide) (by decide)) (by (try simp (disch := omega) only [tS_1, tS_2, tA_1, tA_2, tF_1, tF_2, xl_0, xl_1, xl_2, Nat.reduceEqDiff, ↓reduceIte, nI_add, nI_1, nm_2, nm_3, nm_4, nm_6, nm_7, nm_8, nm_12, nm_16, nm_24, nm_40, nm_180, nm_300, nm_10210, na_0, na_2, na_3, na_4, na_5, na_6, na_7, na_8, nm_p, nm_m, nI_clamp]); exact rfl) dX8_posts_171 ?_
                      refine x_aload_n hκ dX8_posts_172 rfl ?_
                      refine t_getA hκ fl8_56 (by decide) (by decide) rfl dX8_posts_173 ?_
                      refine x_iload hκ dX8_posts_176 rfl ?_
                      refine x_bipush (v := 7) hκ dX8_posts_178 (by decide) ?_
                      refine x_iaddN hκ (by (try simp (disch := omega) only [tS_1, tS_2, tA_1, tA_2, tF_1, tF_2, xl_0, xl_1, xl_2, Nat.reduceEqDiff, ↓reduceIte, nI_add, nI_1, nm_2, nm_3, nm_4, nm_6, nm_7, nm_8, nm_12, nm_16, nm_24, nm_40, nm_180, nm_300, nm_10210, na_0, na_2, na_3, na_4, na_5, na_6, na_7, na_8, nm_p, nm_m, nI_clamp]); exact rfl) dX8_posts_180 ?_
                      refine t_iald (n := 80) hκ hθ (by decide) rfl rfl (by first | ((with_reducible refine vp_in_nI ?_ ?_) <;> omega) | exact i32_in (by omega) (by omega) | exact i32_in' (by simp only [Int32.toInt_add, Int32.toInt_mul, Int32.toInt_sub, Int32.reduceToInt, Int.bmod_add_bmod, Int.bmod_sub_bmod, Int.add_bmod_bmod, Int.sub_bmod_bmod, Int.bmod_mul_bmod, Int.mul_bmod_bmod]; exact i32_bm (by omega) (by omega)) (by omega) (by omega) | exact i32_in (by decide) (by decide)) (by (try simp (disch := omega) only [tS_1, tS_2, tA_1, tA_2, tF_1, tF_2, xl_0, xl_1, xl_2, Nat.reduceEqDiff, ↓reduceIte, nI_add, nI_1, nm_2, nm_3, nm_4, nm_6, nm_7, nm_8, nm_12, nm_16, nm_24, nm_40, nm_180, nm_300, nm_10210, na_0, na_2, na_3, na_4, na_5, na_6, na_7, na_8, nm_p, nm_m, nI_clamp]); exact rfl) dX8_posts_181 ?_
                      refine x_callSi hκ mX8_isGood (by omega) (by decide) wX8_291 aX8_isGood rfl (Nat.le_of_ble_eq_true rfl) dX8_posts_182 (fun r182 h182 => ?_)
                      refine x_istore hκ dX8_posts_185 (by rw [hL]; decide) rfl ?_
                      refine x_iload hκ dX8_posts_187 rfl ?_
                      refine x_if_eq (tgt := 207) hκ dX8_posts_189 (by decide) (fun c189 => ?_) (fun c189 => ?_)
                      · -- X8_posts 189T
                        have i189 := c189
                        simp (disch := omega) only [i32_lt, i32_le, i32_eq, Int32.reduceToInt, nI_toInt] at i189
                        refine x_bipush (v := (-2)) hκ dX8_posts_207 (by decide) ?_
                        refine t_reti hκ hr rfl dX8_posts_209 ?_
                        refine fin _ _ ?_
                        rw [xs, xi, xn]
                        exact ⟨fun z => absurd (z k (by omega)).1 (h182.f c189), fun z => ⟨rfl, rfl⟩⟩
                      · -- X8_posts 189F
                        have i189 := c189
                        simp (disch := omega) only [i32_lt, i32_le, i32_eq, Int32.reduceToInt, nI_toInt] at i189
                        refine x_aload_n hκ dX8_posts_192 rfl ?_
                        refine t_getA hκ fl8_56 (by decide) (by decide) rfl dX8_posts_193 ?_
                        refine x_iload hκ dX8_posts_196 rfl ?_
                        refine x_bipush (v := 7) hκ dX8_posts_198 (by decide) ?_
                        refine x_iaddN hκ (by (try simp (disch := omega) only [tS_1, tS_2, tA_1, tA_2, tF_1, tF_2, xl_0, xl_1, xl_2, Nat.reduceEqDiff, ↓reduceIte, nI_add, nI_1, nm_2, nm_3, nm_4, nm_6, nm_7, nm_8, nm_12, nm_16, nm_24, nm_40, nm_180, nm_300, nm_10210, na_0, na_2, na_3, na_4, na_5, na_6, na_7, na_8, nm_p, nm_m, nI_clamp]); exact rfl) dX8_posts_200 ?_
                        refine t_iald (n := 80) hκ hθ (by decide) rfl rfl (by first | ((with_reducible refine vp_in_nI ?_ ?_) <;> omega) | exact i32_in (by omega) (by omega) | exact i32_in' (by simp only [Int32.toInt_add, Int32.toInt_mul, Int32.toInt_sub, Int32.reduceToInt, Int.bmod_add_bmod, Int.bmod_sub_bmod, Int.add_bmod_bmod, Int.sub_bmod_bmod, Int.bmod_mul_bmod, Int.mul_bmod_bmod]; exact i32_bm (by omega) (by omega)) (by omega) (by omega) | exact i32_in (by decide) (by decide)) (by (try simp (disch := omega) only [tS_1, tS_2, tA_1, tA_2, tF_1, tF_2, xl_0, xl_1, xl_2, Nat.reduceEqDiff, ↓reduceIte, nI_add, nI_1, nm_2, nm_3, nm_4, nm_6, nm_7, nm_8, nm_12, nm_16, nm_24, nm_40, nm_180, nm_300, nm_10210, na_0, na_2, na_3, na_4, na_5, na_6, na_7, na_8, nm_p, nm_m, nI_clamp]); exact rfl) dX8_posts_201 ?_
                        refine x_iload hκ dX8_posts_202 rfl ?_
                        refine x_icmp_ge (tgt := 210) hκ dX8_posts_204 (by decide) (fun c204 => ?_) (fun c204 => ?_)
                        · -- X8_posts 204T
                          have i204 := c204
                          simp (disch := omega) only [i32_lt, i32_le, i32_eq, Int32.reduceToInt, nI_toInt] at i204
                          refine x_aload_n hκ dX8_posts_210 rfl ?_
                          refine t_getA hκ fl8_56 (by decide) (by decide) rfl dX8_posts_211 ?_
                          refine x_iload hκ dX8_posts_214 rfl ?_
                          refine x_bipush (v := 7) hκ dX8_posts_216 (by decide) ?_
                          refine x_iaddN hκ (by (try simp (disch := omega) only [tS_1, tS_2, tA_1, tA_2, tF_1, tF_2, xl_0, xl_1, xl_2, Nat.reduceEqDiff, ↓reduceIte, nI_add, nI_1, nm_2, nm_3, nm_4, nm_6, nm_7, nm_8, nm_12, nm_16, nm_24, nm_40, nm_180, nm_300, nm_10210, na_0, na_2, na_3, na_4, na_5, na_6, na_7, na_8, nm_p, nm_m, nI_clamp]); exact rfl) dX8_posts_218 ?_
                          refine t_iald (n := 80) hκ hθ (by decide) rfl rfl (by first | ((with_reducible refine vp_in_nI ?_ ?_) <;> omega) | exact i32_in (by omega) (by omega) | exact i32_in' (by simp only [Int32.toInt_add, Int32.toInt_mul, Int32.toInt_sub, Int32.reduceToInt, Int.bmod_add_bmod, Int.bmod_sub_bmod, Int.add_bmod_bmod, Int.sub_bmod_bmod, Int.bmod_mul_bmod, Int.mul_bmod_bmod]; exact i32_bm (by omega) (by omega)) (by omega) (by omega) | exact i32_in (by decide) (by decide)) (by (try simp (disch := omega) only [tS_1, tS_2, tA_1, tA_2, tF_1, tF_2, xl_0, xl_1, xl_2, Nat.reduceEqDiff, ↓reduceIte, nI_add, nI_1, nm_2, nm_3, nm_4, nm_6, nm_7, nm_8, nm_12, nm_16, nm_24, nm_40, nm_180, nm_300, nm_10210, na_0, na_2, na_3, na_4, na_5, na_6, na_7, na_8, nm_p, nm_m, nI_clamp]); exact rfl) dX8_posts_219 ?_
                          refine x_istore hκ dX8_posts_220 (by rw [hL]; decide) rfl ?_
                          refine x_iincN (y := 1) hκ dX8_posts_222 (by decide) rfl (by rw [hL]; decide) rfl (by (try simp (disch := omega) only [tS_1, tS_2, tA_1, tA_2, tF_1, tF_2, xl_0, xl_1, xl_2, Nat.reduceEqDiff, ↓reduceIte, nI_add, nI_1, nm_2, nm_3, nm_4, nm_6, nm_7, nm_8, nm_12, nm_16, nm_24, nm_40, nm_180, nm_300, nm_10210, na_0, na_2, na_3, na_4, na_5, na_6, na_7, na_8, nm_p, nm_m, nI_clamp]); exact rfl) ?_
                          refine x_goto (tgt := 89) hκ dX8_posts_225 (by decide) ?_
                          refine ih (k + 1) _ _ rfl (by omega) (by omega) (fun j hj => ?_)
                          rcases (by omega : j < k ∨ j = k) with z | z
                          · exact hdone j z
                          · subst z; exact ⟨h182.t c189, by omega⟩
                        · -- X8_posts 204F
                          have i204 := c204
                          simp (disch := omega) only [i32_lt, i32_le, i32_eq, Int32.reduceToInt, nI_toInt] at i204
                          refine x_bipush (v := (-2)) hκ dX8_posts_207 (by decide) ?_
                          refine t_reti hκ hr rfl dX8_posts_209 ?_
                          refine fin _ _ ?_
                          rw [xs, xi, xn]
                          exact ⟨fun z => absurd (by omega) (z k (by omega)).2, fun z => ⟨rfl, rfl⟩⟩
                refine x_aload_n hκ dX8_posts_80 rfl ?_
                refine t_callR hκ (mX8_latest hθ (by omega)) (by omega) (by decide) wX8_295 aX8_latest rfl (Nat.le_of_ble_eq_true rfl) dX8_posts_81 (fun r81 h81 => ?_)
                have h81' : r81 = lat σ := h81
                subst h81'
                refine x_istore hκ dX8_posts_84 (by rw [hL]; decide) rfl ?_
                refine x_iconst (v := 0) hκ dX8_posts_86 (by decide) ?_
                refine x_istore hκ dX8_posts_87 (by rw [hL]; decide) rfl ?_
                exact checking (m + 1) 0 none none rfl (Nat.zero_le _) (by omega) (fun j hj => absurd hj (Nat.not_lt_zero _))
              · -- X8_posts 74F
                have i74 := c74
                simp (disch := omega) only [i32_lt, i32_le, i32_eq, Int32.reduceToInt, nI_toInt] at i74
                refine x_bipush (v := (-13)) hκ dX8_posts_77 (by decide) ?_
                refine t_reti hκ hr rfl dX8_posts_79 ?_
                have c74' : (σ.2 55 (Int32.toNatClampNeg s)).toInt < i.toInt + 8 * n.toInt := (l_gt i23).mp (lg_pos.mp c74)
                rw [if_pos (by omega), if_neg (by omega), if_pos c47, if_neg (by omega)]
                exact ⟨rfl, rfl⟩
          · -- X8_posts 47F
            have i47 := c47
            simp (disch := omega) only [i32_lt, i32_le, i32_eq, Int32.reduceToInt, nI_toInt] at i47
            refine x_bipush (v := (-12)) hκ dX8_posts_50 (by decide) ?_
            refine t_reti hκ hr rfl dX8_posts_52 ?_
            rw [if_pos (by omega), if_neg (by omega), if_neg c47]
            exact ⟨rfl, rfl⟩
        · -- X8_posts 34F
          have i34 := c34
          simp (disch := omega) only [i32_lt, i32_le, i32_eq, Int32.reduceToInt, nI_toInt] at i34
          refine x_bipush (v := (-11)) hκ dX8_posts_37 (by decide) ?_
          refine t_reti hκ hr rfl dX8_posts_39 ?_
          rw [if_pos (by omega), if_pos (by omega)]
          exact ⟨rfl, rfl⟩
      · -- X8_posts 23F
        have i23 := h20.f c23
        try simp only [Int32.reduceToInt] at i23
        refine x_iconst (v := (-1)) hκ dX8_posts_26 (by decide) ?_
        refine t_reti hκ hr rfl dX8_posts_27 ?_
        rw [if_neg (by omega)]
        exact ⟨rfl, rfl⟩
