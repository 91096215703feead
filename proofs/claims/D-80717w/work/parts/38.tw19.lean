theorem wX8_288 : GoodIn lw_all (wsV RX8 288 RX8 yX8_comes (ws_ yX8_comes cX8_comes 9 none)) := lw_V q1453 q1455 qs49 q82 q1456
theorem aX8_comes : yX8_comes.cls = RX8 ∧ yX8_comes.cls ≠ "java/lang/invoke/MethodHandle" ∧ yX8_comes.cls ≠ "java/lang/invoke/VarHandle" ∧ (parseMethodDescriptor yX8_comes.desc).map (fun d => d.parameters.length) = some 3 := by decide +kernel
/-! the reference: a letter is posted -/
def inQ (σ : TS) (n : Nat) (t : Int32) : Nat → TS
  | 0 => tS σ 48 0
  | b + 1 => if (t >>> (nI b &&& 31)) &&& 1 = 1 then toComeS (inQ σ n t b) (Int32.toNatClampNeg ((inQ σ n t b).1 48)) (nI n) (nI b) 0 else inQ σ n t b
theorem inQ_ok {σ : TS} {n : Nat} {t : Int32} : ∀ b, b ≤ 3 → Fr [45, 46, 47, 48] σ (inQ σ n t b) ∧ ∃ m : Nat, m ≤ b ∧ (inQ σ n t b).1 48 = nI m ∧ ∀ i, i < m → (inQ σ n t b).2 45 i = nI n ∧ (inQ σ n t b).2 47 i = 0 ∧ ∃ o, o < 3 ∧ (inQ σ n t b).2 46 i = nI o
  | 0, _ => ⟨(Fr.rf _ σ).S rfl _, 0, Nat.le_refl _, rfl, fun i h => absurd h (Nat.not_lt_zero _)⟩
  | b + 1, hb => by
    obtain ⟨h1, m, h2, h3, h4⟩ := inQ_ok (σ := σ) (n := n) (t := t) b (by omega)
    rw [inQ]
    split
    · have e : Int32.toNatClampNeg ((inQ σ n t b).1 48) = m := by rw [h3]; exact nI_clamp (by omega)
      rw [e]
      refine ⟨(((h1.A rfl _ _).A rfl _ _).A rfl _ _).S rfl _, m + 1, by omega, rfl, fun i hi => ?_⟩
      by_cases him : i = m
      · subst him
        exact ⟨if_pos rfl, if_pos rfl, b, by omega, if_pos rfl⟩
      · obtain ⟨a1, a2, o, a3, a4⟩ := h4 i (by omega)
        exact ⟨(if_neg him).trans a1, (if_neg him).trans a2, o, a3, (if_neg him).trans a4⟩
    · exact ⟨h1, m, by omega, h3, h4⟩
def ComeR (R : Nat → Rl) (l0 : Nat) (σ : TS) (k : Nat) (σ1 : TS) : Prop := ∃ (l b n8 n : Nat) (s : TS), QI R l0 σ k n8 n ∧ k < n8 ∧ σ.2 45 k = nI l ∧ σ.2 46 k = nI b ∧ l < n ∧ b < 3 ∧ (l = l0 ∨ ¬ σ.2 30 l = 0) ∧ RunS (so σ l b ∘ Int32.toNatClampNeg) l b (σ.2 47 k) (R b) (in0 σ l b) s ∧ CI σ n8 n l b (σ.2 47 k) s ∧ σ1 = comeE s l b
/-- all that is to come, from the k-th on -/
def QueR (R : Nat → Rl) (l0 : Nat) : Nat → Nat → TS → TS → Prop
  | 0, _, _, _ => False
  | f + 1, k, σ, σ' => if k < Int32.toNatClampNeg (σ.1 48) then ∃ σ1 : TS, ComeR R l0 σ k σ1 ∧ QueR R l0 f (k + 1) σ1 σ' else σ' = σ
/-- what posting may rest on -/
def PI (R : Nat → Rl) (σ : TS) (n : Nat) : Prop := σ.1 25 = nI n ∧ n ≤ 190 ∧ (∀ l, l < n → rowOk σ l) ∧ (∀ j : Nat, σ.2 34 j = 0 ∨ σ.2 34 j = 1) ∧ (∀ b, b < 3 → 1 ≤ (σ.2 8 b).toInt) ∧ (∀ t, t < 12 → 0 ≤ (σ.2 40 t).toInt ∧ (σ.2 40 t).toInt ≤ 180) ∧ ∀ b, b < 3 → RV σ b (R b)
theorem mp_le {σ : TS} {l b : Nat} : mp σ l b ≤ 1 := by unfold mp; split <;> omega
theorem PI.start {R : Nat → Rl} {σ : TS} {n : Nat} (h : PI R σ n) {f t w s g i r d : Int32} (hf : 0 ≤ f.toInt ∧ f.toInt ≤ 15) (hi : 0 ≤ i.toInt ∧ i.toInt ≤ 9999) (hr : r.toInt ≤ 9999) : ∃ n8 : Nat, QI R n (inQ (addS σ n f t w s g i r d) n t 3) 0 n8 (n + 1) := by
  obtain ⟨h25, h190, hrow, hhad, hday, hcnt, hRV⟩ := h
  obtain ⟨h1, m, h2, h3, h4⟩ := inQ_ok (σ := addS σ n f t w s g i r d) (n := n) (t := t) 3 (Nat.le_refl _)
  have m0 := mp_le (σ := inQ (addS σ n f t w s g i r d) n t 3) (l := n) (b := 0)
  have m1 := mp_le (σ := inQ (addS σ n f t w s g i r d) n t 3) (l := n) (b := 1)
  have m2 := mp_le (σ := inQ (addS σ n f t w s g i r d) n t 3) (l := n) (b := 2)
  refine ⟨m, h3, Nat.zero_le _, ?_, Nat.lt_succ_self _, ?_, ?_, h190, ?_, ?_, ?_, ?_, ?_, ?_⟩
  · rw [(h1 25 rfl).1]; rfl
  · have hp := pend_le (σ := inQ (addS σ n f t w s g i r d) n t 3) (k := 0) (w := 5) (m - 0) (fun j hj => by unfold wE wt; split; omega; split <;> omega)
    unfold mpc
    omega
  · unfold mpc
    omega
  · intro j _ hj
    obtain ⟨a1, -, o, a3, a4⟩ := h4 j hj
    exact ⟨n, o, a1, a4, Nat.lt_succ_self _, a3, Or.inl rfl⟩
  · intro l hl
    unfold rowOk
    rw [(h1 26 rfl).2, (h1 31 rfl).2, (h1 32 rfl).2]
    show (0 ≤ (upd (σ.2 26) n f l).toInt ∧ (upd (σ.2 26) n f l).toInt ≤ 15) ∧ (0 ≤ (upd (σ.2 31) n i l).toInt ∧ (upd (σ.2 31) n i l).toInt ≤ 10209) ∧ (upd (σ.2 32) n r l).toInt ≤ 10209
    by_cases hln : l = n
    · subst hln
      unfold upd
      rw [if_pos rfl, if_pos rfl, if_pos rfl]
      omega
    · rw [updne (by omega), updne (by omega), updne (by omega)]
      exact hrow l (by omega)
  · rw [(h1 34 rfl).2]; exact hhad
  · rw [(h1 8 rfl).2]; exact hday
  · rw [(h1 40 rfl).2]; intro k hk; have := hcnt k hk; show 0 ≤ (σ.2 40 k).toInt ∧ (σ.2 40 k).toInt ≤ _; omega
  · intro b hb
    exact RV_of (σ := σ) ((h1 2 rfl).2) ((h1 3 rfl).2) ((h1 4 rfl).2) ((h1 5 rfl).2) ((h1 6 rfl).2) (hRV b hb)
theorem mX8_posted {E : gE} {θ : TA} (hθ : tOk θ) {σ : TS} {R : Nat → Rl} {n : Nat} (hP : PI R σ n) {f t w s g i r d : Int32} (hf : 0 ≤ f.toInt ∧ f.toInt ≤ 15) (hi : 0 ≤ i.toInt ∧ i.toInt ≤ 9999) (hrr : r.toInt ≤ 9999) : TMv E θ σ yX8_posted cX8_posted 11 4 [.int f, .int t, .int w, .int s, .int g, .int i, .int r, .int d] (fun σ' => QueR R n 31 0 (inQ (addS σ n f t w s g i r d) n t 3) σ' ∧ ∃ (k n' : Nat), QI R n σ' k k n') := by
  refine TMv.of (by decide) (Nat.le_of_ble_eq_true rfl) ?_
  rintro κ rfl hL hκ hr
  obtain ⟨n8, hq0⟩ := hP.start (f := f) (t := t) (w := w) (s := s) (g := g) (i := i) (r := r) (d := d) hf hi hrr
  have h25 := hP.1
  have h190 := hP.2.1
  have queue : ∀ (m k n8 n' : Nat) (σc : TS), 31 - k < m → QI R n σc k n8 n' → (∀ y, QueR R n (31 - k) k σc y → QueR R n 31 0 (inQ (addS σ n f t w s g i r d) n t 3) y) → X κ (tG (kE κ) θ σc) 0 0 65 [some (.ref θ.1), some (.int f), some (.int t), some (.int w), some (.int s), some (.int g), some (.int i), some (.int r), some (.int d), some (.int (nI n)), some (.int (nI k))] [] := by
    intro m
    induction m with
    | zero => intro k n8 n' σc h; exact absurd h (Nat.not_lt_zero _)
    | succ m ih =>
      intro k n8 n' σc hm hq hy
      have hq' := hq
      obtain ⟨q48, qk, q25, ql0, qpot, qlet, q190, qent, qrow, qhad, qday, qcnt, qRV⟩ := hq'
      have hge := pend_ge (σ := σc) (k := k) (n8 - k)
      have e8 : Int32.toNatClampNeg (σc.1 48) = n8 := by rw [q48]; exact nI_clamp (by omega)
      refine x_iload hκ dX8_posted_65 rfl ?_
      refine x_aload_n hκ dX8_posted_67 rfl ?_
      refine t_get hκ fl8_48 (by decide) (by decide) rfl (by (try simp (disch := omega) only [tS_1, tS_2, tA_1, tA_2, tF_1, tF_2, xl_0, xl_1, xl_2, Nat.reduceEqDiff, ↓reduceIte, nI_add, nI_1, nm_2, nm_3, nm_4, nm_6, nm_7, nm_8, nm_12, nm_16, nm_24, nm_40, nm_180, nm_300, nm_10210, na_0, na_2, na_3, na_4, na_5, na_6, na_7, na_8, nm_p, nm_m, nI_clamp, q48]); exact rfl) dX8_posted_68 ?_
      refine x_icmp_ge (tgt := 105) hκ dX8_posted_71 (by decide) (fun c71 => ?_) (fun c71 => ?_)
      · -- X8_posted 71T
        have i71 := c71
        simp (disch := omega) only [i32_lt, i32_le, i32_eq, Int32.reduceToInt, nI_toInt] at i71
        refine t_retv hκ hr dX8_posted_105 ?_
        obtain rfl : k = n8 := by omega
        refine ⟨hy _ ?_, k, n', hq⟩
        rw [show 31 - k = (30 - k) + 1 by omega, QueR, e8, if_neg (by omega)]
      · -- X8_posted 71F
        have i71 := c71
        simp (disch := omega) only [i32_lt, i32_le, i32_eq, Int32.reduceToInt, nI_toInt] at i71
        obtain ⟨l, b, e45, e46, hl, hb, hll⟩ := qent k (Nat.le_refl _) (by omega)
        refine x_aload_n hκ dX8_posted_74 rfl ?_
        refine x_aload_n hκ dX8_posted_75 rfl ?_
        refine t_getA hκ fl8_45 (by decide) (by decide) rfl dX8_posted_76 ?_
        refine x_iload hκ dX8_posted_79 rfl ?_
        refine t_iald (n := 64) hκ hθ (by decide) rfl rfl (by first | ((with_reducible refine vp_in_nI ?_ ?_) <;> omega) | exact i32_in (by omega) (by omega) | exact i32_in' (by simp only [Int32.toInt_add, Int32.toInt_mul, Int32.toInt_sub, Int32.reduceToInt, Int.bmod_add_bmod, Int.bmod_sub_bmod, Int.add_bmod_bmod, Int.sub_bmod_bmod, Int.bmod_mul_bmod, Int.mul_bmod_bmod]; exact i32_bm (by omega) (by omega)) (by omega) (by omega) | exact i32_in (by decide) (by decide)) (by (try simp (disch := omega) only [tS_1, tS_2, tA_1, tA_2, tF_1, tF_2, xl_0, xl_1, xl_2, Nat.reduceEqDiff, ↓reduceIte, nI_add, nI_1, nm_2, nm_3, nm_4, nm_6, nm_7, nm_8, nm_12, nm_16, nm_24, nm_40, nm_180, nm_300, nm_10210, na_0, na_2, na_3, na_4, na_5, na_6, na_7, na_8, nm_p, nm_m, nI_clamp, q48, e45, e46]); exact rfl) dX8_posted_81 ?_
        refine x_aload_n hκ dX8_posted_82 rfl ?_
        refine t_getA hκ fl8_46 (by decide) (by decide) rfl dX8_posted_83 ?_
        refine x_iload hκ dX8_posted_86 rfl ?_
        refine t_iald (n := 64) hκ hθ (by decide) rfl rfl (by first | ((with_reducible refine vp_in_nI ?_ ?_) <;> omega) | exact i32_in (by omega) (by omega) | exact i32_in' (by simp only [Int32.toInt_add, Int32.toInt_mul, Int32.toInt_sub, Int32.reduceToInt, Int.bmod_add_bmod, Int.bmod_sub_bmod, Int.add_bmod_bmod, Int.sub_bmod_bmod, Int.bmod_mul_bmod, Int.mul_bmod_bmod]; exact i32_bm (by omega) (by omega)) (by omega) (by omega) | exact i32_in (by decide) (by decide)) (by (try simp (disch := omega) only [tS_1, tS_2, tA_1, tA_2, tF_1, tF_2, xl_0, xl_1, xl_2, Nat.reduceEqDiff, ↓reduceIte, nI_add, nI_1, nm_2, nm_3, nm_4, nm_6, nm_7, nm_8, nm_12, nm_16, nm_24, nm_40, nm_180, nm_300, nm_10210, na_0, na_2, na_3, na_4, na_5, na_6, na_7, na_8, nm_p, nm_m, nI_clamp, q48, e45, e46]); exact rfl) dX8_posted_88 ?_
        refine x_aload_n hκ dX8_posted_89 rfl ?_
        refine t_getA hκ fl8_47 (by decide) (by decide) rfl dX8_posted_90 ?_
        refine x_iload hκ dX8_posted_93 rfl ?_
        refine t_iald (n := 64) hκ hθ (by decide) rfl rfl (by first | ((with_reducible refine vp_in_nI ?_ ?_) <;> omega) | exact i32_in (by omega) (by omega) | exact i32_in' (by simp only [Int32.toInt_add, Int32.toInt_mul, Int32.toInt_sub, Int32.reduceToInt, Int.bmod_add_bmod, Int.bmod_sub_bmod, Int.add_bmod_bmod, Int.sub_bmod_bmod, Int.bmod_mul_bmod, Int.mul_bmod_bmod]; exact i32_bm (by omega) (by omega)) (by omega) (by omega) | exact i32_in (by decide) (by decide)) (by (try simp (disch := omega) only [tS_1, tS_2, tA_1, tA_2, tF_1, tF_2, xl_0, xl_1, xl_2, Nat.reduceEqDiff, ↓reduceIte, nI_add, nI_1, nm_2, nm_3, nm_4, nm_6, nm_7, nm_8, nm_12, nm_16, nm_24, nm_40, nm_180, nm_300, nm_10210, na_0, na_2, na_3, na_4, na_5, na_6, na_7, na_8, nm_p, nm_m, nI_clamp, q48, e45, e46]); exact rfl) dX8_posted_95 ?_
        refine t_callv hκ (mX8_comes hθ (R := R b) q48 (by omega) q25 (by omega) hl hb (qRV b hb) (qrow l hl).1 (qrow l hl).2.1 (qrow l hl).2.2 qhad (qday b hb) (fun k2 hk2 => by have := qcnt k2 hk2; omega)) (by omega) (by decide) wX8_288 aX8_comes rfl (Nat.le_of_ble_eq_true rfl) dX8_posted_96 (fun σ96 h96 => ?_)
        obtain ⟨ss, hrun, hci, rfl⟩ := h96
        obtain ⟨n8', n'', hq2⟩ := hq.step (by omega) e45 e46 hl hb hll hci
        refine x_iincN (y := 1) hκ dX8_posted_99 (by decide) rfl (by rw [hL]; decide) rfl (by (try simp (disch := omega) only [tS_1, tS_2, tA_1, tA_2, tF_1, tF_2, xl_0, xl_1, xl_2, Nat.reduceEqDiff, ↓reduceIte, nI_add, nI_1, nm_2, nm_3, nm_4, nm_6, nm_7, nm_8, nm_12, nm_16, nm_24, nm_40, nm_180, nm_300, nm_10210, na_0, na_2, na_3, na_4, na_5, na_6, na_7, na_8, nm_p, nm_m, nI_clamp, q48, e45, e46]); exact rfl) ?_
        refine x_goto (tgt := 65) hκ dX8_posted_102 (by decide) ?_
        refine ih (k + 1) n8' n'' _ (by omega) hq2 (fun y hy2 => hy y ?_)
        rw [show 31 - k = (31 - (k + 1)) + 1 by omega, QueR, e8, if_pos (by omega)]
        exact ⟨_, ⟨l, b, n8, n', ss, hq, by omega, e45, e46, hl, hb, hll, hrun, hci, rfl⟩, hy2⟩
  have first : ∀ (m b : Nat), b ≤ 3 → 3 - b < m → X κ (tG (kE κ) θ (inQ (addS σ n f t w s g i r d) n t b)) 0 0 31 [some (.ref θ.1), some (.int f), some (.int t), some (.int w), some (.int s), some (.int g), some (.int i), some (.int r), some (.int d), some (.int (nI n)), some (.int (nI b))] [] := by
    intro m
    induction m with
    | zero => intro b h1 h2; exact absurd h2 (Nat.not_lt_zero _)
    | succ m ih =>
      intro b hb hm
      obtain ⟨-, mm, h2, h3, -⟩ := inQ_ok (σ := addS σ n f t w s g i r d) (n := n) (t := t) b hb
      have e : Int32.toNatClampNeg ((inQ (addS σ n f t w s g i r d) n t b).1 48) = mm := by rw [h3]; exact nI_clamp (by omega)
      refine x_iload hκ dX8_posted_31 rfl ?_
      refine x_iconst (v := 3) hκ dX8_posted_33 (by decide) ?_
      refine x_icmp_ge (tgt := 62) hκ dX8_posted_34 (by decide) (fun c34 => ?_) (fun c34 => ?_)
      · -- X8_posted 34T
        have i34 := c34
        simp (disch := omega) only [i32_lt, i32_le, i32_eq, Int32.reduceToInt, nI_toInt] at i34
        refine x_iconst (v := 0) hκ dX8_posted_62 (by decide) ?_
        refine x_istore hκ dX8_posted_63 (by rw [hL]; decide) rfl ?_
        obtain rfl : b = 3 := by omega
        exact queue 32 0 n8 (n + 1) _ (by omega) hq0 (fun y hy => hy)
      · -- X8_posted 34F
        have i34 := c34
        simp (disch := omega) only [i32_lt, i32_le, i32_eq, Int32.reduceToInt, nI_toInt] at i34
        refine x_iload_n hκ dX8_posted_37 rfl ?_
        refine x_iload hκ dX8_posted_38 rfl ?_
        refine x_ishr hκ dX8_posted_40 ?_
        refine x_iconst (v := 1) hκ dX8_posted_41 (by decide) ?_
        refine x_iand hκ dX8_posted_42 ?_
        refine x_iconst (v := 1) hκ dX8_posted_43 (by decide) ?_
        refine x_icmp_ne (tgt := 56) hκ dX8_posted_44 (by decide) (fun c44 => ?_) (fun c44 => ?_)
        · -- X8_posted 44T
          have i44 := c44
          simp (disch := omega) only [i32_lt, i32_le, i32_eq, Int32.reduceToInt, nI_toInt] at i44
          refine x_iincN (y := 1) hκ dX8_posted_56 (by decide) rfl (by rw [hL]; decide) rfl (by (try simp (disch := omega) only [tS_1, tS_2, tA_1, tA_2, tF_1, tF_2, xl_0, xl_1, xl_2, Nat.reduceEqDiff, ↓reduceIte, nI_add, nI_1, nm_2, nm_3, nm_4, nm_6, nm_7, nm_8, nm_12, nm_16, nm_24, nm_40, nm_180, nm_300, nm_10210, na_0, na_2, na_3, na_4, na_5, na_6, na_7, na_8, nm_p, nm_m, nI_clamp]); exact rfl) ?_
          refine x_goto (tgt := 31) hκ dX8_posted_59 (by decide) ?_
          have q := ih (b + 1) (by omega) (by omega)
          rw [inQ, if_neg c44] at q
          exact q
        · -- X8_posted 44F
          have i44 := c44
          simp (disch := omega) only [i32_lt, i32_le, i32_eq, Int32.reduceToInt, nI_toInt] at i44
          refine x_aload_n hκ dX8_posted_47 rfl ?_
          refine x_iload hκ dX8_posted_48 rfl ?_
          refine x_iload hκ dX8_posted_50 rfl ?_
          refine x_iconst (v := 0) hκ dX8_posted_52 (by decide) ?_
          refine t_callv hκ (mX8_toCome hθ (n := mm) h3 (by omega)) (by omega) (by decide) wX8_243 aX8_toCome rfl (Nat.le_of_ble_eq_true rfl) dX8_posted_53 (fun σ53 h53 => ?_)
          subst h53
          refine x_iincN (y := 1) hκ dX8_posted_56 (by decide) rfl (by rw [hL]; decide) rfl (by (try simp (disch := omega) only [tS_1, tS_2, tA_1, tA_2, tF_1, tF_2, xl_0, xl_1, xl_2, Nat.reduceEqDiff, ↓reduceIte, nI_add, nI_1, nm_2, nm_3, nm_4, nm_6, nm_7, nm_8, nm_12, nm_16, nm_24, nm_40, nm_180, nm_300, nm_10210, na_0, na_2, na_3, na_4, na_5, na_6, na_7, na_8, nm_p, nm_m, nI_clamp]); exact rfl) ?_
          refine x_goto (tgt := 31) hκ dX8_posted_59 (by decide) ?_
          have q := ih (b + 1) (by omega) (by omega)
          rw [inQ, if_pos c44, e] at q
          exact q
  refine x_aload_n hκ dX8_posted_0 rfl ?_
  refine t_get hκ fl8_25 (by decide) (by decide) rfl (by (try simp (disch := omega) only [tS_1, tS_2, tA_1, tA_2, tF_1, tF_2, xl_0, xl_1, xl_2, Nat.reduceEqDiff, ↓reduceIte, nI_add, nI_1, nm_2, nm_3, nm_4, nm_6, nm_7, nm_8, nm_12, nm_16, nm_24, nm_40, nm_180, nm_300, nm_10210, na_0, na_2, na_3, na_4, na_5, na_6, na_7, na_8, nm_p, nm_m, nI_clamp, h25]); exact rfl) dX8_posted_1 ?_
  refine x_istore hκ dX8_posted_4 (by rw [hL]; decide) rfl ?_
  refine x_aload_n hκ dX8_posted_6 rfl ?_
  refine x_iload_n hκ dX8_posted_7 rfl ?_
  refine x_iload_n hκ dX8_posted_8 rfl ?_
  refine x_iload_n hκ dX8_posted_9 rfl ?_
  refine x_iload hκ dX8_posted_10 rfl ?_
  refine x_iload hκ dX8_posted_12 rfl ?_
  refine x_iload hκ dX8_posted_14 rfl ?_
  refine x_iload hκ dX8_posted_16 rfl ?_
  refine x_iload hκ dX8_posted_18 rfl ?_
  refine t_callv hκ (mX8_add hθ h25 (by omega)) (by omega) (by decide) wX8_230 aX8_add rfl (Nat.le_of_ble_eq_true rfl) dX8_posted_20 (fun σ20 h20 => ?_)
  subst h20
  refine x_aload_n hκ dX8_posted_23 rfl ?_
  refine x_iconst (v := 0) hκ dX8_posted_24 (by decide) ?_
  refine t_put hκ fl8_48 (by decide) (by decide) rfl rfl rfl dX8_posted_25 ?_
  refine x_iconst (v := 0) hκ dX8_posted_28 (by decide) ?_
  refine x_istore hκ dX8_posted_29 (by rw [hL]; decide) rfl ?_
  exact first 4 0 (by omega) (by omega)
