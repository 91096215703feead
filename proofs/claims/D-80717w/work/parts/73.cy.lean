
/-! the component: typing -/
theorem i64_and255 (y : Int64) : (y &&& 255).toInt = y.toInt % 256 := by
  have h1 : (y &&& 255).toBitVec.toNat = y.toBitVec.toNat % 256 := by
    show (y.toBitVec &&& 255#64).toNat = _
    rw [BitVec.toNat_and]
    exact Nat.and_two_pow_sub_one_eq_mod _ 8
  have h2 : (y &&& 255).toInt = ((y &&& 255).toBitVec).toInt := rfl
  have h3 : y.toInt = y.toBitVec.toInt := rfl
  rw [h2, h3, BitVec.toInt_eq_toNat_cond, BitVec.toInt_eq_toNat_cond, h1]
  have h4 := y.toBitVec.isLt
  rw [if_pos (by omega)]
  split <;> omega
theorem by_chr {y : Int64} (h : 32 ≤ ((y &&& 255).toInt32).toInt ∧ ((y &&& 255).toInt32).toInt ≤ 126) : vp_nar .byte (y.toInt32.toInt8.toInt32) = (y &&& 255).toInt32 := by
  have h1 : ((y &&& 255).toInt32).toInt = y.toInt % 256 := by
    rw [Int64.toInt_toInt32, i64_and255]
    exact i32_bm (by omega) (by omega)
  have h2 : (y.toInt32.toInt8).toInt = y.toInt.bmod 256 := by
    rw [Int32.toInt_toInt8, Int64.toInt_toInt32]
    exact Int.bmod_bmod_of_dvd (by decide)
  rw [h1] at h
  have h3 : y.toInt.bmod 256 = y.toInt % 256 := by
    rw [Int.bmod_def]
    split <;> omega
  have h4 : (y.toInt32.toInt8.toInt32).toInt = y.toInt % 256 := by
    rw [Int8.toInt_toInt32, h2, h3]
  refine i32_eq.mpr ?_
  rw [h1]
  show (y.toInt32.toInt8.toInt32.toInt8.toInt32).toInt = _
  rw [Int8.toInt_toInt32, Int32.toInt_toInt8, h4, Int.bmod_def]
  split <;> omega
theorem CWc.tape {E : gE} {L : Nat → Nat} {γ : Gh} {σ : TS} {c : Int32} {s : CSt} (h : CWc E L γ σ c s) {k : Nat} (v : Int32) : CWc E L γ (tA σ 0 k v) c (aS s (L 3) k v) := by
  obtain ⟨a1, a2, a3, a4, a5, a6, a7⟩ := h.at (r := 3) (by omega) (Kp.aS (s := s) (k := k) (v := v) rfl)
  have hf : Fr [0] σ (tA σ 0 k v) := (Fr.rf _ _).A rfl _ _
  obtain ⟨g1, g2, g3, g4, g5, g6, g7, g8, g9, g10⟩ := h.p
  refine ⟨h.sc.aS, ⟨g1, g2, g3, g4, g5, g6, g7, g8, g9, fun j hj => ?_⟩, (a2 (by omega)).fr hf rfl, (a3 (by omega) (by omega)).fr hf rfl, (a4 (by omega)).fr hf rfl, (a5 (by omega) (by omega)).fr hf rfl, (a6 (by omega)).fr hf rfl, a7, h.x⟩
  rw [aS_a, tA_2, if_pos rfl]
  unfold upd
  by_cases e : j = k
  · rw [if_pos ⟨rfl, e⟩, if_pos e]
  · rw [if_neg (fun z => e z.2), if_neg e]
    exact g10 j hj
/-- a number of the whole is put -/
theorem CWc.num {E : gE} {L : Nat → Nat} {γ : Gh} {σ : TS} {c : Int32} {s : CSt} (h : CWc E L γ σ c s) {k k2 : Nat} (hk : (k = 3 ∧ k2 = 1) ∨ (k = 13 ∧ k2 = 36) ∨ (k = 14 ∧ k2 = 37) ∨ (k = 15 ∧ k2 = 38) ∨ (k = 16 ∧ k2 = 39)) (v : Int32) : CWc E L γ (tS σ k2 v) c (oS s (L 0) k (.int v)) := by
  obtain ⟨a1, a2, a3, a4, a5, a6, a7⟩ := h.at (r := 0) (by omega) (Kp.oS (s := s) (k := k) (v := .int v) rfl)
  have hf : Fr [k2] σ (tS σ k2 v) := (Fr.rf _ _).S (by simp) _
  obtain ⟨g1, ⟨x2, g2⟩, ⟨x3, g3⟩, ⟨x4, g4⟩, g5, g6, g7, g8, g9, g10⟩ := h.p
  have hp : cP L (tS σ k2 v) c (oS s (L 0) k (.int v)) := by
    unfold cP
    simp only [oS_o, oS_a, tS_1, tS_2, true_and]
    rcases hk with ⟨rfl, rfl⟩ | ⟨rfl, rfl⟩ | ⟨rfl, rfl⟩ | ⟨rfl, rfl⟩ | ⟨rfl, rfl⟩ <;> simp only [Nat.reduceEqDiff, ↓reduceIte, g1, g2, g3, g4, g5, g6, g7, g8, g9, true_and] <;> exact ⟨⟨_, rfl⟩, ⟨_, rfl⟩, ⟨_, rfl⟩, g10⟩
  have hfst : fst 0 k = none := by rcases hk with ⟨rfl, -⟩ | ⟨rfl, -⟩ | ⟨rfl, -⟩ | ⟨rfl, -⟩ | ⟨rfl, -⟩ <;> rfl
  rcases hk with ⟨-, rfl⟩ | ⟨-, rfl⟩ | ⟨-, rfl⟩ | ⟨-, rfl⟩ | ⟨-, rfl⟩ <;> exact ⟨h.sc.oS (by omega) hfst (by omega), hp, (a2 (by omega)).fr hf rfl, (a3 (by omega) (by omega)).fr hf rfl, (a4 (by omega)).fr hf rfl, (a5 (by omega) (by omega)).fr hf rfl, (a6 (by omega)).fr hf rfl, a7, h.x⟩
/-- private numbers: at, opens, comingMany -/
theorem CWc.prv {E : gE} {L : Nat → Nat} {γ : Gh} {σ : TS} {c : Int32} {s : CSt} (h : CWc E L γ σ c s) {k : Nat} (hk : k = 4 ∨ k = 5 ∨ k = 11) (v : Int32) : CWc E L γ σ c (oS s (L 0) k (.int v)) := by
  obtain ⟨a1, a2, a3, a4, a5, a6, a7⟩ := h.at (r := 0) (by omega) (Kp.oS (s := s) (k := k) (v := .int v) rfl)
  obtain ⟨g1, ⟨x2, g2⟩, ⟨x3, g3⟩, ⟨x4, g4⟩, g5, g6, g7, g8, g9, g10⟩ := h.p
  have hp : cP L σ c (oS s (L 0) k (.int v)) := by
    unfold cP
    simp only [oS_o, oS_a, true_and]
    rcases hk with rfl | rfl | rfl <;> simp only [Nat.reduceEqDiff, ↓reduceIte, g1, g2, g3, g4, g5, g6, g7, g8, g9, true_and] <;> exact ⟨⟨_, rfl⟩, ⟨_, rfl⟩, ⟨_, rfl⟩, g10⟩
  have hfst : fst 0 k = none := by rcases hk with rfl | rfl | rfl <;> rfl
  exact ⟨h.sc.oS (by omega) hfst (by omega), hp, a2 (by omega), a3 (by omega) (by omega), a4 (by omega), a5 (by omega) (by omega), a6 (by omega), a7, h.x⟩
theorem oX0_type {E : gE} {L : Nat → Nat} {γ : Gh} {σ : TS} {s : CSt} (h : CW E L γ σ s) {N : Nat} (h1 : σ.1 1 = nI N) (hN : N ≤ 90) {w : Int64} {n : Int32} {r2 : Int32} {σ2 : TS} (h2 : if 1 ≤ n.toInt ∧ n.toInt ≤ 8 then (okW w (Int32.toNatClampNeg n) → (r2, σ2) = if 90 < N + Int32.toNatClampNeg n then (-3, σ) else (nI (N + Int32.toNatClampNeg n), tS (tF σ 0 (typ (σ.2 0) w N (Int32.toNatClampNeg n) (Int32.toNatClampNeg n))) 1 (nI (N + Int32.toNatClampNeg n)))) ∧ (¬ okW w (Int32.toNatClampNeg n) → (r2, σ2) = (-1, σ)) else (r2, σ2) = (-1, σ)) : CMg E s yX0_type cX0_type 5 (some .int) 2 0 0 [.ref (L 0), .long w, .int n] (cQ E L r2 σ2) := by
  refine CMg.of (by decide) (Nat.le_of_ble_eq_true rfl) ?_
  rintro κ rfl hL hκ hr
  refine x_iload_n hκ dX0_type_0 rfl ?_
  refine x_iconst (v := 1) hκ dX0_type_1 (by decide) ?_
  refine x_bipush (v := 8) hκ dX0_type_2 (by decide) ?_
  refine x_callSi hκ mX0_isIn (by omega) (by decide) wX0_3 aX0_isIn rfl (Nat.le_of_ble_eq_true rfl) dX0_type_4 (fun r4 h4 => ?_)
  refine x_if_ne (tgt := 12) hκ dX0_type_7 (by decide) (fun c7 => ?_) (fun c7 => ?_)
  · -- X0_type 7T
    have i7 := h4.t c7
    try simp only [Int32.reduceToInt] at i7
    rw [if_pos i7] at h2
    obtain ⟨m, hm, rfl, -⟩ := i32_nat (m := 8) ⟨by omega, i7.2⟩
    rw [nI_toInt (by omega)] at i7
    rw [nI_clamp (by omega)] at h2
    have typing : okW w m → N + m ≤ 90 → ∀ (q j : Nat) (s1 : CSt), j + q = m → CW (kE κ) L γ (tS (tF σ 0 (typ (σ.2 0) w N m j)) 1 (nI (N + j))) s1 → X κ (sG (kE κ) s1) 0 0 71 [some (.ref (L 0)), some (.long w), none, some (.int (nI m)), some (.int (nI q - 1))] [] := by
      intro hok hlim q
      induction q with
      | zero =>
        intro j s1 hj h
        obtain rfl : j = m := by omega
        have h3 := h2.1 hok
        rw [if_neg (by omega)] at h3
        obtain ⟨rfl, rfl⟩ := Prod.mk.inj h3
        refine x_iload hκ dX0_type_71 rfl ?_
        refine x_if_lt (tgt := 110) hκ dX0_type_73 (by decide) (fun c73 => ?_) (fun c73 => ?_)
        · -- X0_type 73T
          have i73 := c73
          simp (disch := omega) only [i32_lt, i32_le, i32_eq, Int32.reduceToInt, nI_toInt] at i73
          refine x_aload_n hκ dX0_type_110 rfl ?_
          refine c_get hκ kX0 (by (try simp (disch := omega) only [oS_k, oS_o, oS_a, oS_f, oS_n, aS_k, aS_o, aS_a, aS_f, aS_n, fS_k, fS_o, fS_a, fS_f, fS_n, nO_k, nO_o, nO_a, nA_k, nA_o, nA_a, nA_f, nA_n, nF_k, nF_o, nF_a, nF_f, nF_n, Nat.reduceEqDiff, ↓reduceIte, and_true, true_and, and_false, false_and, reduceCtorEq, xl_0, xl_1, xl_2, nI_add, nI_1, nm_2, nm_3, nm_4, nm_6, nm_7, nm_8, nm_12, nm_16, na_0, na_2, na_3, na_4, na_5, na_6, na_7, na_8, nm_p, nm_m, nI_clamp]); first | done | assumption | exact h.sc.k (by decide) | exact h.sc.kb (by omega) | exact h.sc.kbt (by omega) | exact h.sc.kbh (by omega) | exact h.sc.kba (by omega) | exact h.sc.kt (by omega) | exact h.sc.ktl (by omega) | exact h.sc.ks (by omega) | rfl) 3 (by decide) (Or.inl q632) rfl (by (try simp (disch := omega) only [oS_k, oS_o, oS_a, oS_f, oS_n, aS_k, aS_o, aS_a, aS_f, aS_n, fS_k, fS_o, fS_a, fS_f, fS_n, nO_k, nO_o, nO_a, nA_k, nA_o, nA_a, nA_f, nA_n, nF_k, nF_o, nF_a, nF_f, nF_n, Nat.reduceEqDiff, ↓reduceIte, and_true, true_and, and_false, false_and, reduceCtorEq, xl_0, xl_1, xl_2, nI_add, nI_1, nm_2, nm_3, nm_4, nm_6, nm_7, nm_8, nm_12, nm_16, na_0, na_2, na_3, na_4, na_5, na_6, na_7, na_8, nm_p, nm_m, nI_clamp]); first | exact h.sc.o (by decide) rfl | exact h.sc.ob1 (by omega) | exact h.sc.ob2 (by omega) | exact h.sc.ob3 (by omega) | exact h.sc.ot (by omega) | exact h.sc.fb (by omega) | exact h.sc.ft (by omega) (by omega) | exact h.sc.fs (by omega) | exact h.p.1 | exact h.p.2.2.2.2.1 | exact h.p.2.2.2.2.2.1 | exact h.p.2.2.2.2.2.2.1 | exact h.p.2.2.2.2.2.2.2.1 | exact h.p.2.2.2.2.2.2.2.2.1 | exact rfl) dX0_type_111 ?_
          refine c_reti hκ hr dX0_type_114 ?_
          exact ⟨rfl, γ, h⟩
        · -- X0_type 73F
          have i73 := c73
          simp (disch := omega) only [i32_lt, i32_le, i32_eq, Int32.reduceToInt, nI_toInt] at i73
          exact absurd (by decide) c73
      | succ q ih =>
        intro j s1 hj h
        have e1 : nI (q + 1) - 1 = nI q := by rw [nm_p (by omega)]; rfl
        rw [e1]
        have h1' : s1.2.1 (L 0) 3 = .int (nI (N + j)) := h.p.1
        have hch := hok q (by omega)
        have hn := CWc.num (k := 3) (k2 := 1) (h.tape (k := N + j) (chr w q)) (Or.inl ⟨rfl, rfl⟩) (nI (N + (j + 1)))
        have ih2 := ih (j + 1) _ (by omega) (CW.mk (by rw [tA_tS, tA_tFs, tS_tS] at hn; rw [typ, show m - 1 - j = q by omega]; exact hn) rfl)
        refine x_iload hκ dX0_type_71 rfl ?_
        refine x_if_lt (tgt := 110) hκ dX0_type_73 (by decide) (fun c73 => ?_) (fun c73 => ?_)
        · -- X0_type 73T
          have i73 := c73
          simp (disch := omega) only [i32_lt, i32_le, i32_eq, Int32.reduceToInt, nI_toInt] at i73
          omega
        · -- X0_type 73F
          have i73 := c73
          simp (disch := omega) only [i32_lt, i32_le, i32_eq, Int32.reduceToInt, nI_toInt] at i73
          refine x_aload_n hκ dX0_type_76 rfl ?_
          refine c_get hκ kX0 (by (try simp (disch := omega) only [oS_k, oS_o, oS_a, oS_f, oS_n, aS_k, aS_o, aS_a, aS_f, aS_n, fS_k, fS_o, fS_a, fS_f, fS_n, nO_k, nO_o, nO_a, nA_k, nA_o, nA_a, nA_f, nA_n, nF_k, nF_o, nF_a, nF_f, nF_n, Nat.reduceEqDiff, ↓reduceIte, and_true, true_and, and_false, false_and, reduceCtorEq, xl_0, xl_1, xl_2, nI_add, nI_1, nm_2, nm_3, nm_4, nm_6, nm_7, nm_8, nm_12, nm_16, na_0, na_2, na_3, na_4, na_5, na_6, na_7, na_8, nm_p, nm_m, nI_clamp]); first | done | assumption | exact h.sc.k (by decide) | exact h.sc.kb (by omega) | exact h.sc.kbt (by omega) | exact h.sc.kbh (by omega) | exact h.sc.kba (by omega) | exact h.sc.kt (by omega) | exact h.sc.ktl (by omega) | exact h.sc.ks (by omega) | rfl) 2 (by decide) (Or.inl q631) rfl (by (try simp (disch := omega) only [oS_k, oS_o, oS_a, oS_f, oS_n, aS_k, aS_o, aS_a, aS_f, aS_n, fS_k, fS_o, fS_a, fS_f, fS_n, nO_k, nO_o, nO_a, nA_k, nA_o, nA_a, nA_f, nA_n, nF_k, nF_o, nF_a, nF_f, nF_n, Nat.reduceEqDiff, ↓reduceIte, and_true, true_and, and_false, false_and, reduceCtorEq, xl_0, xl_1, xl_2, nI_add, nI_1, nm_2, nm_3, nm_4, nm_6, nm_7, nm_8, nm_12, nm_16, na_0, na_2, na_3, na_4, na_5, na_6, na_7, na_8, nm_p, nm_m, nI_clamp]); first | exact h.sc.o (by decide) rfl | exact h.sc.ob1 (by omega) | exact h.sc.ob2 (by omega) | exact h.sc.ob3 (by omega) | exact h.sc.ot (by omega) | exact h.sc.fb (by omega) | exact h.sc.ft (by omega) (by omega) | exact h.sc.fs (by omega) | exact h.p.1 | exact h.p.2.2.2.2.1 | exact h.p.2.2.2.2.2.1 | exact h.p.2.2.2.2.2.2.1 | exact h.p.2.2.2.2.2.2.2.1 | exact h.p.2.2.2.2.2.2.2.2.1 | exact rfl) dX0_type_77 ?_
          refine x_aload_n hκ dX0_type_80 rfl ?_
          refine c_get hκ kX0 (by (try simp (disch := omega) only [oS_k, oS_o, oS_a, oS_f, oS_n, aS_k, aS_o, aS_a, aS_f, aS_n, fS_k, fS_o, fS_a, fS_f, fS_n, nO_k, nO_o, nO_a, nA_k, nA_o, nA_a, nA_f, nA_n, nF_k, nF_o, nF_a, nF_f, nF_n, Nat.reduceEqDiff, ↓reduceIte, and_true, true_and, and_false, false_and, reduceCtorEq, xl_0, xl_1, xl_2, nI_add, nI_1, nm_2, nm_3, nm_4, nm_6, nm_7, nm_8, nm_12, nm_16, na_0, na_2, na_3, na_4, na_5, na_6, na_7, na_8, nm_p, nm_m, nI_clamp]); first | done | assumption | exact h.sc.k (by decide) | exact h.sc.kb (by omega) | exact h.sc.kbt (by omega) | exact h.sc.kbh (by omega) | exact h.sc.kba (by omega) | exact h.sc.kt (by omega) | exact h.sc.ktl (by omega) | exact h.sc.ks (by omega) | rfl) 3 (by decide) (Or.inl q632) rfl (by exact h1') dX0_type_81 ?_
          refine x_lload_n hκ dX0_type_84 rfl ?_
          refine x_bipush (v := 8) hκ dX0_type_85 (by decide) ?_
          refine x_iload hκ dX0_type_87 rfl ?_
          refine x_imulN hκ (by (try simp (disch := omega) only [oS_k, oS_o, oS_a, oS_f, oS_n, aS_k, aS_o, aS_a, aS_f, aS_n, fS_k, fS_o, fS_a, fS_f, fS_n, nO_k, nO_o, nO_a, nA_k, nA_o, nA_a, nA_f, nA_n, nF_k, nF_o, nF_a, nF_f, nF_n, Nat.reduceEqDiff, ↓reduceIte, and_true, true_and, and_false, false_and, reduceCtorEq, xl_0, xl_1, xl_2, nI_add, nI_1, nm_2, nm_3, nm_4, nm_6, nm_7, nm_8, nm_12, nm_16, na_0, na_2, na_3, na_4, na_5, na_6, na_7, na_8, nm_p, nm_m, nI_clamp]); first | exact h.sc.o (by decide) rfl | exact h.sc.ob1 (by omega) | exact h.sc.ob2 (by omega) | exact h.sc.ob3 (by omega) | exact h.sc.ot (by omega) | exact h.sc.fb (by omega) | exact h.sc.ft (by omega) (by omega) | exact h.sc.fs (by omega) | exact h.p.1 | exact h.p.2.2.2.2.1 | exact h.p.2.2.2.2.2.1 | exact h.p.2.2.2.2.2.2.1 | exact h.p.2.2.2.2.2.2.2.1 | exact h.p.2.2.2.2.2.2.2.2.1 | exact rfl) dX0_type_89 ?_
          refine x_lshr hκ dX0_type_90 ?_
          refine x_l2i hκ dX0_type_91 ?_
          refine x_i2b hκ dX0_type_92 ?_
          refine c_bast hκ (by (try simp (disch := omega) only [oS_k, oS_o, oS_a, oS_f, oS_n, aS_k, aS_o, aS_a, aS_f, aS_n, fS_k, fS_o, fS_a, fS_f, fS_n, nO_k, nO_o, nO_a, nA_k, nA_o, nA_a, nA_f, nA_n, nF_k, nF_o, nF_a, nF_f, nF_n, Nat.reduceEqDiff, ↓reduceIte, and_true, true_and, and_false, false_and, reduceCtorEq, xl_0, xl_1, xl_2, nI_add, nI_1, nm_2, nm_3, nm_4, nm_6, nm_7, nm_8, nm_12, nm_16, na_0, na_2, na_3, na_4, na_5, na_6, na_7, na_8, nm_p, nm_m, nI_clamp]); first | done | assumption | exact h.sc.k (by decide) | exact h.sc.kb (by omega) | exact h.sc.kbt (by omega) | exact h.sc.kbh (by omega) | exact h.sc.kba (by omega) | exact h.sc.kt (by omega) | exact h.sc.ktl (by omega) | exact h.sc.ks (by omega) | rfl) (by (try simp (disch := omega) only [oS_k, oS_o, oS_a, oS_f, oS_n, aS_k, aS_o, aS_a, aS_f, aS_n, fS_k, fS_o, fS_a, fS_f, fS_n, nO_k, nO_o, nO_a, nA_k, nA_o, nA_a, nA_f, nA_n, nF_k, nF_o, nF_a, nF_f, nF_n, Nat.reduceEqDiff, ↓reduceIte, and_true, true_and, and_false, false_and, reduceCtorEq, xl_0, xl_1, xl_2, nI_add, nI_1, nm_2, nm_3, nm_4, nm_6, nm_7, nm_8, nm_12, nm_16, na_0, na_2, na_3, na_4, na_5, na_6, na_7, na_8, nm_p, nm_m, nI_clamp]); first | exact h.sc.n3 | exact h.sc.n4 | exact h.sc.nbt (by omega) | exact h.sc.nbh (by omega) | exact h.sc.nba (by omega) | exact h.sc.n41 | exact h.sc.n42 | exact h.sc.n43 | exact h.sc.n45 | exact h.sc.n46 | exact h.sc.n48 | exact rfl) (by first | ((with_reducible refine vp_in_nI ?_ ?_) <;> omega) | exact i32_in (by omega) (by omega) | exact i32_in' (by simp only [Int32.toInt_add, Int32.toInt_mul, Int32.toInt_sub, Int32.reduceToInt, Int.bmod_add_bmod, Int.bmod_sub_bmod, Int.add_bmod_bmod, Int.sub_bmod_bmod, Int.bmod_mul_bmod, Int.mul_bmod_bmod]; exact i32_bm (by omega) (by omega)) (by omega) (by omega) | exact i32_in (by decide) (by decide)) (by (try simp (disch := omega) only [oS_k, oS_o, oS_a, oS_f, oS_n, aS_k, aS_o, aS_a, aS_f, aS_n, fS_k, fS_o, fS_a, fS_f, fS_n, nO_k, nO_o, nO_a, nA_k, nA_o, nA_a, nA_f, nA_n, nF_k, nF_o, nF_a, nF_f, nF_n, Nat.reduceEqDiff, ↓reduceIte, and_true, true_and, and_false, false_and, reduceCtorEq, xl_0, xl_1, xl_2, nI_add, nI_1, nm_2, nm_3, nm_4, nm_6, nm_7, nm_8, nm_12, nm_16, na_0, na_2, na_3, na_4, na_5, na_6, na_7, na_8, nm_p, nm_m, nI_clamp]); first | exact h.sc.o (by decide) rfl | exact h.sc.ob1 (by omega) | exact h.sc.ob2 (by omega) | exact h.sc.ob3 (by omega) | exact h.sc.ot (by omega) | exact h.sc.fb (by omega) | exact h.sc.ft (by omega) (by omega) | exact h.sc.fs (by omega) | exact h.p.1 | exact h.p.2.2.2.2.1 | exact h.p.2.2.2.2.2.1 | exact h.p.2.2.2.2.2.2.1 | exact h.p.2.2.2.2.2.2.2.1 | exact h.p.2.2.2.2.2.2.2.2.1 | exact rfl) (by_chr hch) dX0_type_93 ?_
          refine x_aload_n hκ dX0_type_94 rfl ?_
          refine x_dup hκ dX0_type_95 rfl ?_
          refine c_get hκ kX0 (by exact (h.sc.k (r := 0) (by decide))) 3 (by decide) (Or.inl q632) rfl (by exact h1') dX0_type_96 ?_
          refine x_iconst (v := 1) hκ dX0_type_99 (by decide) ?_
          refine x_iaddN hκ (by (try simp (disch := omega) only [oS_k, oS_o, oS_a, oS_f, oS_n, aS_k, aS_o, aS_a, aS_f, aS_n, fS_k, fS_o, fS_a, fS_f, fS_n, nO_k, nO_o, nO_a, nA_k, nA_o, nA_a, nA_f, nA_n, nF_k, nF_o, nF_a, nF_f, nF_n, Nat.reduceEqDiff, ↓reduceIte, and_true, true_and, and_false, false_and, reduceCtorEq, xl_0, xl_1, xl_2, nI_add, nI_1, nm_2, nm_3, nm_4, nm_6, nm_7, nm_8, nm_12, nm_16, na_0, na_2, na_3, na_4, na_5, na_6, na_7, na_8, nm_p, nm_m, nI_clamp]); first | exact h.sc.o (by decide) rfl | exact h.sc.ob1 (by omega) | exact h.sc.ob2 (by omega) | exact h.sc.ob3 (by omega) | exact h.sc.ot (by omega) | exact h.sc.fb (by omega) | exact h.sc.ft (by omega) (by omega) | exact h.sc.fs (by omega) | exact h.p.1 | exact h.p.2.2.2.2.1 | exact h.p.2.2.2.2.2.1 | exact h.p.2.2.2.2.2.2.1 | exact h.p.2.2.2.2.2.2.2.1 | exact h.p.2.2.2.2.2.2.2.2.1 | exact rfl) dX0_type_100 ?_
          refine c_put hκ kX0 (by exact (h.sc.k (r := 0) (by decide))) 3 (by decide) (Or.inl q632) rfl rfl (by rfl) (by rfl) dX0_type_101 ?_
          refine x_iincN (y := (-1)) hκ dX0_type_104 (by decide) rfl (by rw [hL]; decide) rfl (by (try simp (disch := omega) only [oS_k, oS_o, oS_a, oS_f, oS_n, aS_k, aS_o, aS_a, aS_f, aS_n, fS_k, fS_o, fS_a, fS_f, fS_n, nO_k, nO_o, nO_a, nA_k, nA_o, nA_a, nA_f, nA_n, nF_k, nF_o, nF_a, nF_f, nF_n, Nat.reduceEqDiff, ↓reduceIte, and_true, true_and, and_false, false_and, reduceCtorEq, xl_0, xl_1, xl_2, nI_add, nI_1, nm_2, nm_3, nm_4, nm_6, nm_7, nm_8, nm_12, nm_16, na_0, na_2, na_3, na_4, na_5, na_6, na_7, na_8, nm_p, nm_m, nI_clamp]); first | exact h.sc.o (by decide) rfl | exact h.sc.ob1 (by omega) | exact h.sc.ob2 (by omega) | exact h.sc.ob3 (by omega) | exact h.sc.ot (by omega) | exact h.sc.fb (by omega) | exact h.sc.ft (by omega) (by omega) | exact h.sc.fs (by omega) | exact h.p.1 | exact h.p.2.2.2.2.1 | exact h.p.2.2.2.2.2.1 | exact h.p.2.2.2.2.2.2.1 | exact h.p.2.2.2.2.2.2.2.1 | exact h.p.2.2.2.2.2.2.2.2.1 | exact rfl) ?_
          refine x_goto (tgt := 71) hκ dX0_type_107 (by decide) ?_
          rw [show nI q + (-1) = nI q - 1 from (Int32.sub_eq_add_neg _ _).symm]
          exact ih2
    have checking : ∀ (k : Nat), k ≤ m → (∀ j, k ≤ j → j < m → 32 ≤ (chr w j).toInt ∧ (chr w j).toInt ≤ 126) → X κ (sG (kE κ) s) 0 0 17 [some (.ref (L 0)), some (.long w), none, some (.int (nI m)), some (.int (nI k - 1))] [] := by
      intro k
      induction k with
      | zero =>
        intro hk hdone
        have hok : okW w m := fun j hj => hdone j (Nat.zero_le _) hj
        refine x_iload hκ dX0_type_17 rfl ?_
        refine x_if_lt (tgt := 52) hκ dX0_type_19 (by decide) (fun c19 => ?_) (fun c19 => ?_)
        · -- X0_type 19T
          have i19 := c19
          simp (disch := omega) only [i32_lt, i32_le, i32_eq, Int32.reduceToInt, nI_toInt] at i19
          refine x_aload_n hκ dX0_type_52 rfl ?_
          refine c_get hκ kX0 (by (try simp (disch := omega) only [oS_k, oS_o, oS_a, oS_f, oS_n, aS_k, aS_o, aS_a, aS_f, aS_n, fS_k, fS_o, fS_a, fS_f, fS_n, nO_k, nO_o, nO_a, nA_k, nA_o, nA_a, nA_f, nA_n, nF_k, nF_o, nF_a, nF_f, nF_n, Nat.reduceEqDiff, ↓reduceIte, and_true, true_and, and_false, false_and, reduceCtorEq, xl_0, xl_1, xl_2, nI_add, nI_1, nm_2, nm_3, nm_4, nm_6, nm_7, nm_8, nm_12, nm_16, na_0, na_2, na_3, na_4, na_5, na_6, na_7, na_8, nm_p, nm_m, nI_clamp]); first | done | assumption | exact h.sc.k (by decide) | exact h.sc.kb (by omega) | exact h.sc.kbt (by omega) | exact h.sc.kbh (by omega) | exact h.sc.kba (by omega) | exact h.sc.kt (by omega) | exact h.sc.ktl (by omega) | exact h.sc.ks (by omega) | rfl) 3 (by decide) (Or.inl q632) rfl (by exact (h.p.1.trans (congrArg Value.int h1))) dX0_type_53 ?_
          refine x_iload_n hκ dX0_type_56 rfl ?_
          refine x_iaddN hκ (by (try simp (disch := omega) only [oS_k, oS_o, oS_a, oS_f, oS_n, aS_k, aS_o, aS_a, aS_f, aS_n, fS_k, fS_o, fS_a, fS_f, fS_n, nO_k, nO_o, nO_a, nA_k, nA_o, nA_a, nA_f, nA_n, nF_k, nF_o, nF_a, nF_f, nF_n, Nat.reduceEqDiff, ↓reduceIte, and_true, true_and, and_false, false_and, reduceCtorEq, xl_0, xl_1, xl_2, nI_add, nI_1, nm_2, nm_3, nm_4, nm_6, nm_7, nm_8, nm_12, nm_16, na_0, na_2, na_3, na_4, na_5, na_6, na_7, na_8, nm_p, nm_m, nI_clamp]); first | exact h.sc.o (by decide) rfl | exact h.sc.ob1 (by omega) | exact h.sc.ob2 (by omega) | exact h.sc.ob3 (by omega) | exact h.sc.ot (by omega) | exact h.sc.fb (by omega) | exact h.sc.ft (by omega) (by omega) | exact h.sc.fs (by omega) | exact h.p.1 | exact h.p.2.2.2.2.1 | exact h.p.2.2.2.2.2.1 | exact h.p.2.2.2.2.2.2.1 | exact h.p.2.2.2.2.2.2.2.1 | exact h.p.2.2.2.2.2.2.2.2.1 | exact rfl) dX0_type_57 ?_
          refine x_bipush (v := 90) hκ dX0_type_58 (by decide) ?_
          refine x_icmp_le (tgt := 66) hκ dX0_type_60 (by decide) (fun c60 => ?_) (fun c60 => ?_)
          · -- X0_type 60T
            have i60 := c60
            simp (disch := omega) only [i32_lt, i32_le, i32_eq, Int32.reduceToInt, nI_toInt] at i60
            refine x_iload_n hκ dX0_type_66 rfl ?_
            refine x_iconst (v := 1) hκ dX0_type_67 (by decide) ?_
            refine x_isub hκ dX0_type_68 ?_
            refine x_istore hκ dX0_type_69 (by rw [hL]; decide) rfl ?_
            refine typing hok (by omega) m 0 s (by omega) ?_
            rw [typ, tF_self, Nat.add_zero, ← h1]
            have e0 : tS σ 1 (σ.1 1) = σ := by unfold tS; refine Prod.ext ?_ rfl; funext j; unfold upd; by_cases hj : j = 1 <;> simp [hj]
            rw [e0]
            exact h
          · -- X0_type 60F
            have i60 := c60
            simp (disch := omega) only [i32_lt, i32_le, i32_eq, Int32.reduceToInt, nI_toInt] at i60
            refine x_bipush (v := (-3)) hκ dX0_type_63 (by decide) ?_
            refine c_reti hκ hr dX0_type_65 ?_
            have h3 := h2.1 hok
            rw [if_pos (by omega)] at h3
            obtain ⟨rfl, rfl⟩ := Prod.mk.inj h3
            exact ⟨rfl, γ, h⟩
        · -- X0_type 19F
          have i19 := c19
          simp (disch := omega) only [i32_lt, i32_le, i32_eq, Int32.reduceToInt, nI_toInt] at i19
          exact absurd (by decide) c19
      | succ k ih =>
        intro hk hdone
        have e1 : nI (k + 1) - 1 = nI k := by rw [nm_p (by omega)]; rfl
        rw [e1]
        refine x_iload hκ dX0_type_17 rfl ?_
        refine x_if_lt (tgt := 52) hκ dX0_type_19 (by decide) (fun c19 => ?_) (fun c19 => ?_)
        · -- X0_type 19T
          have i19 := c19
          simp (disch := omega) only [i32_lt, i32_le, i32_eq, Int32.reduceToInt, nI_toInt] at i19
          omega
        · -- X0_type 19F
          have i19 := c19
          simp (disch := omega) only [i32_lt, i32_le, i32_eq, Int32.reduceToInt, nI_toInt] at i19
          refine x_lload_n hκ dX0_type_22 rfl ?_
          refine x_bipush (v := 8) hκ dX0_type_23 (by decide) ?_
          refine x_iload hκ dX0_type_25 rfl ?_
          refine x_imulN hκ (by (try simp (disch := omega) only [oS_k, oS_o, oS_a, oS_f, oS_n, aS_k, aS_o, aS_a, aS_f, aS_n, fS_k, fS_o, fS_a, fS_f, fS_n, nO_k, nO_o, nO_a, nA_k, nA_o, nA_a, nA_f, nA_n, nF_k, nF_o, nF_a, nF_f, nF_n, Nat.reduceEqDiff, ↓reduceIte, and_true, true_and, and_false, false_and, reduceCtorEq, xl_0, xl_1, xl_2, nI_add, nI_1, nm_2, nm_3, nm_4, nm_6, nm_7, nm_8, nm_12, nm_16, na_0, na_2, na_3, na_4, na_5, na_6, na_7, na_8, nm_p, nm_m, nI_clamp]); first | exact h.sc.o (by decide) rfl | exact h.sc.ob1 (by omega) | exact h.sc.ob2 (by omega) | exact h.sc.ob3 (by omega) | exact h.sc.ot (by omega) | exact h.sc.fb (by omega) | exact h.sc.ft (by omega) (by omega) | exact h.sc.fs (by omega) | exact h.p.1 | exact h.p.2.2.2.2.1 | exact h.p.2.2.2.2.2.1 | exact h.p.2.2.2.2.2.2.1 | exact h.p.2.2.2.2.2.2.2.1 | exact h.p.2.2.2.2.2.2.2.2.1 | exact rfl) dX0_type_27 ?_
          refine x_lshr hκ dX0_type_28 ?_
          refine x_ldc2 hκ q113 dX0_type_29 ?_
          refine x_land hκ dX0_type_32 ?_
          refine x_l2i hκ dX0_type_33 ?_
          refine x_bipush (v := 32) hκ dX0_type_34 (by decide) ?_
          refine x_bipush (v := 126) hκ dX0_type_36 (by decide) ?_
          refine x_callSi hκ mX0_isIn (by omega) (by decide) wX0_3 aX0_isIn rfl (Nat.le_of_ble_eq_true rfl) dX0_type_38 (fun r38 h38 => ?_)
          refine x_if_ne (tgt := 46) hκ dX0_type_41 (by decide) (fun c41 => ?_) (fun c41 => ?_)
          · -- X0_type 41T
            have i41 := h38.t c41
            try simp only [Int32.reduceToInt] at i41
            refine x_iincN (y := (-1)) hκ dX0_type_46 (by decide) rfl (by rw [hL]; decide) rfl (by (try simp (disch := omega) only [oS_k, oS_o, oS_a, oS_f, oS_n, aS_k, aS_o, aS_a, aS_f, aS_n, fS_k, fS_o, fS_a, fS_f, fS_n, nO_k, nO_o, nO_a, nA_k, nA_o, nA_a, nA_f, nA_n, nF_k, nF_o, nF_a, nF_f, nF_n, Nat.reduceEqDiff, ↓reduceIte, and_true, true_and, and_false, false_and, reduceCtorEq, xl_0, xl_1, xl_2, nI_add, nI_1, nm_2, nm_3, nm_4, nm_6, nm_7, nm_8, nm_12, nm_16, na_0, na_2, na_3, na_4, na_5, na_6, na_7, na_8, nm_p, nm_m, nI_clamp]); first | exact h.sc.o (by decide) rfl | exact h.sc.ob1 (by omega) | exact h.sc.ob2 (by omega) | exact h.sc.ob3 (by omega) | exact h.sc.ot (by omega) | exact h.sc.fb (by omega) | exact h.sc.ft (by omega) (by omega) | exact h.sc.fs (by omega) | exact h.p.1 | exact h.p.2.2.2.2.1 | exact h.p.2.2.2.2.2.1 | exact h.p.2.2.2.2.2.2.1 | exact h.p.2.2.2.2.2.2.2.1 | exact h.p.2.2.2.2.2.2.2.2.1 | exact rfl) ?_
            refine x_goto (tgt := 17) hκ dX0_type_49 (by decide) ?_
            rw [show nI k + (-1) = nI k - 1 from (Int32.sub_eq_add_neg _ _).symm]
            exact ih (by omega) (fun j hj hjm => by rcases (by omega : k + 1 ≤ j ∨ j = k) with z | z; exact hdone j z hjm; rw [z]; exact i41)
          · -- X0_type 41F
            have i41 := h38.f c41
            try simp only [Int32.reduceToInt] at i41
            refine x_iconst (v := (-1)) hκ dX0_type_44 (by decide) ?_
            refine c_reti hκ hr dX0_type_45 ?_
            have h3 := h2.2 (fun z => i41 (z k (by omega)))
            obtain ⟨rfl, rfl⟩ := Prod.mk.inj h3
            exact ⟨rfl, γ, h⟩
    refine x_iload_n hκ dX0_type_12 rfl ?_
    refine x_iconst (v := 1) hκ dX0_type_13 (by decide) ?_
    refine x_isub hκ dX0_type_14 ?_
    refine x_istore hκ dX0_type_15 (by rw [hL]; decide) rfl ?_
    exact checking m (Nat.le_refl _) (fun j h1 h2 => by omega)
  · -- X0_type 7F
    have i7 := h4.f c7
    try simp only [Int32.reduceToInt] at i7
    refine x_iconst (v := (-1)) hκ dX0_type_10 (by decide) ?_
    refine c_reti hκ hr dX0_type_11 ?_
    rw [if_neg i7] at h2
    obtain ⟨rfl, rfl⟩ := Prod.mk.inj h2
    exact ⟨rfl, γ, h⟩
