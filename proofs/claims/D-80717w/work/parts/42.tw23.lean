theorem wX8_150 : GoodIn lw_all (wsV RX8 150 RX8 yX8_number (ws_ yX8_number cX8_number 4 (some .int))) := lw_V q1387 q1389 qs39 q82 q1390
theorem aX8_number : yX8_number.cls = RX8 ∧ yX8_number.cls ≠ "java/lang/invoke/MethodHandle" ∧ yX8_number.cls ≠ "java/lang/invoke/VarHandle" ∧ (parseMethodDescriptor yX8_number.desc).map (fun d => d.parameters.length) = some 1 := by decide +kernel
theorem wX8_155 : GoodIn lw_all (wsV RX8 155 RX8 yX8_put (ws_ yX8_put cX8_put 2 none)) := lw_V q1392 q1394 qs40 q82 q1395
theorem aX8_put : yX8_put.cls = RX8 ∧ yX8_put.cls ≠ "java/lang/invoke/MethodHandle" ∧ yX8_put.cls ≠ "java/lang/invoke/VarHandle" ∧ (parseMethodDescriptor yX8_put.desc).map (fun d => d.parameters.length) = some 1 := by decide +kernel
/-! the reference: atoms -/
/-- an atom's kind by its sign, and its number's most -/
def akd (c : Int32) : Option (Int32 × Option Int32) :=
  if c = 102 then some (0, some 15) else if c = 116 then some (1, some 15) else if c = 119 then some (2, some 11) else if c = 62 then some (3, some 60000)
  else if c = 108 then some (4, none) else if c = 97 then some (5, none) else if c = 106 then some (6, none) else if c = 100 then some (7, none) else if c = 114 then some (8, none) else if c = 42 then some (9, none) else none
/-- what stands at a, an atom's sign c: none; a fault; or where it ends, and its code -/
def atm (T : Nat → Int32) (N a : Nat) (c : Int32) : Option (Nat ⊕ (Nat × Int32)) :=
  match akd c with
  | none => none
  | some (k, none) => some (.inr (a + 1, 1000000 * k))
  | some (k, some m) => match nm T N (a + 1) m with
    | .inl p => some (.inl p)
    | .inr q => some (.inr (q.1, 1000000 * k + q.2))
theorem atm_n {T : Nat → Int32} {N a : Nat} {c : Int32} (h : akd c = none) : atm T N a c = none := by unfold atm; rw [h]
theorem atm_0 {T : Nat → Int32} {N a : Nat} {c k : Int32} (h : akd c = some (k, none)) : atm T N a c = some (.inr (a + 1, 1000000 * k)) := by unfold atm; rw [h]
theorem atm_l {T : Nat → Int32} {N a p : Nat} {c k m : Int32} (h : akd c = some (k, some m)) (h2 : nm T N (a + 1) m = .inl p) : atm T N a c = some (.inl p) := by unfold atm; rw [h]; simp only [h2]
theorem atm_r {T : Nat → Int32} {N a e : Nat} {c k m v : Int32} (h : akd c = some (k, some m)) (h2 : nm T N (a + 1) m = .inr (e, v)) : atm T N a c = some (.inr (e, 1000000 * k + v)) := by unfold atm; rw [h]; simp only [h2]
/-- a code is read -/
def putR (σ : TS) (m : Nat) (c : Int32) : TS := tS (tA σ 14 m c) 15 (nI (m + 1))
theorem mX8_atom {E : gE} {θ : TA} (hθ : tOk θ) {σ : TS} {a N m : Nat} (h9 : σ.1 9 = nI a) (hT : σ.1 1 = nI N) (hN : N ≤ 90) (ha : a ≤ 190) (hm : σ.1 15 = nI m) (hm2 : m < 180) {c : Int32} : TMi E θ σ yX8_atom cX8_atom 4 .boolean 2 [.int c] (fun r σ' => (atm (σ.2 0) N a c = none → r = 0 ∧ σ' = σ) ∧ (∀ p, atm (σ.2 0) N a c = some (.inl p) → r = 1 ∧ ∃ (b : Nat) (x : Int32), b ≤ 200 ∧ σ' = putR (flt (tS σ 9 (nI b)) p) m x) ∧ ∀ e x, atm (σ.2 0) N a c = some (.inr (e, x)) → r = 1 ∧ σ' = putR (tS σ 9 (nI e)) m x) := by
  refine TMi.of (by decide) (Nat.le_of_ble_eq_true rfl) ?_
  rintro κ rfl hL hκ hr
  have J66 : ∀ kd most : Int32, akd c = some (kd, some most) → (((kd = 0 ∨ kd = 1) ∧ most = 15) ∨ (kd = 2 ∧ most = 11) ∨ (kd = 3 ∧ most = 60000)) → X κ (tG (kE κ) θ (tS σ 9 (nI (a + 1)))) 0 0 66 [some (.ref θ.1), some (.int c), some (.int kd), none] [] := by
    intro kd most hk hkm
    have J89 : X κ (tG (kE κ) θ (tS σ 9 (nI (a + 1)))) 0 0 89 [some (.ref θ.1), some (.int c), some (.int kd), none] [.int most, .ref θ.1] := by
      refine t_calli hκ (mX8_number hθ (a := a + 1) (N := N) (by exact rfl) (by exact hT) hN (by omega)) (by omega) (by decide) wX8_150 aX8_number rfl (Nat.le_of_ble_eq_true rfl) dX8_atom_89 (fun r89 σ89 h89 => ?_)
      have hput : (σ89.1 15 = nI m ∧ σ89.2 0 = σ.2 0) := by
        cases hnm : nm (σ.2 0) N (a + 1) most with
        | inl p => obtain ⟨b, -, rfl⟩ := h89.1 p hnm; exact ⟨hm, rfl⟩
        | inr q => obtain ⟨-, rfl⟩ := h89.2 q.1 q.2 hnm; exact ⟨hm, rfl⟩
      refine x_istore_n hκ dX8_atom_92 (by rw [hL]; decide) rfl ?_
      refine x_aload_n hκ dX8_atom_93 rfl ?_
      refine x_ldc hκ q1391 dX8_atom_94 ?_
      refine x_iload_n hκ dX8_atom_96 rfl ?_
      refine x_imulN hκ (by (try simp (disch := omega) only [tS_1, tS_2, tA_1, tA_2, tF_1, tF_2, xl_0, xl_1, xl_2, Nat.reduceEqDiff, ↓reduceIte, nI_add, nI_1, nm_2, nm_3, nm_4, nm_6, nm_7, nm_8, nm_12, nm_16, nm_24, nm_40, nm_180, nm_300, nm_10210, na_0, na_2, na_3, na_4, na_5, na_6, na_7, na_8, nm_p, nm_m, nI_clamp]); exact rfl) dX8_atom_97 ?_
      refine x_iload_n hκ dX8_atom_98 rfl ?_
      refine x_iaddN hκ (by (try simp (disch := omega) only [tS_1, tS_2, tA_1, tA_2, tF_1, tF_2, xl_0, xl_1, xl_2, Nat.reduceEqDiff, ↓reduceIte, nI_add, nI_1, nm_2, nm_3, nm_4, nm_6, nm_7, nm_8, nm_12, nm_16, nm_24, nm_40, nm_180, nm_300, nm_10210, na_0, na_2, na_3, na_4, na_5, na_6, na_7, na_8, nm_p, nm_m, nI_clamp]); exact rfl) dX8_atom_99 ?_
      refine t_callv hκ (mX8_put hθ (by exact hput.1) hm2) (by omega) (by decide) wX8_155 aX8_put rfl (Nat.le_of_ble_eq_true rfl) dX8_atom_100 (fun σ100 h100 => ?_)
      subst h100
      refine x_iconst (v := 1) hκ dX8_atom_103 (by decide) ?_
      refine t_retz hκ hr rfl dX8_atom_104 (by first | exact Or.inl rfl | exact Or.inr rfl | assumption) ?_
      refine ⟨fun z => ?_, fun p z => ?_, fun e x z => ?_⟩
      · cases hnm : nm (σ.2 0) N (a + 1) most with
        | inl p => rw [atm_l hk hnm] at z; cases z
        | inr q => rw [atm_r (e := q.1) (v := q.2) hk hnm] at z; cases z
      · refine ⟨rfl, ?_⟩
        cases hnm : nm (σ.2 0) N (a + 1) most with
        | inl p' =>
          rw [atm_l hk hnm] at z
          cases z
          obtain ⟨b, hb, rfl⟩ := h89.1 p hnm
          exact ⟨b, _, hb, by unfold putR flt; rw [tS_tS]⟩
        | inr q => rw [atm_r (e := q.1) (v := q.2) hk hnm] at z; cases z
      · refine ⟨rfl, ?_⟩
        cases hnm : nm (σ.2 0) N (a + 1) most with
        | inl p' => rw [atm_l hk hnm] at z; cases z
        | inr q =>
          rw [atm_r (e := q.1) (v := q.2) hk hnm] at z
          cases z
          obtain ⟨rfl, rfl⟩ := h89.2 q.1 q.2 hnm
          unfold putR
          rw [tS_tS]
    refine x_aload_n hκ dX8_atom_66 rfl ?_
    refine x_iload_n hκ dX8_atom_67 rfl ?_
    refine x_iconst (v := 2) hκ dX8_atom_68 (by decide) ?_
    refine x_icmp_ge (tgt := 77) hκ dX8_atom_69 (by decide) (fun c69 => ?_) (fun c69 => ?_)
    · -- X8_atom 69T
      have i69 := c69
      simp (disch := omega) only [i32_lt, i32_le, i32_eq, Int32.reduceToInt, nI_toInt] at i69
      refine x_iload_n hκ dX8_atom_77 rfl ?_
      refine x_iconst (v := 2) hκ dX8_atom_78 (by decide) ?_
      refine x_icmp_ne (tgt := 87) hκ dX8_atom_79 (by decide) (fun c79 => ?_) (fun c79 => ?_)
      · -- X8_atom 79T
        have i79 := c79
        simp (disch := omega) only [i32_lt, i32_le, i32_eq, Int32.reduceToInt, nI_toInt] at i79
        refine x_ldc hκ q1386 dX8_atom_87 ?_
        rcases hkm with ⟨z, -⟩ | ⟨rfl, -⟩ | ⟨-, rfl⟩
        · exfalso; rcases z with rfl | rfl <;> exact absurd c69 (by decide)
        · exact absurd rfl c79
        · exact J89
      · -- X8_atom 79F
        have i79 := c79
        simp (disch := omega) only [i32_lt, i32_le, i32_eq, Int32.reduceToInt, nI_toInt] at i79
        refine x_bipush (v := 11) hκ dX8_atom_82 (by decide) ?_
        refine x_goto (tgt := 89) hκ dX8_atom_84 (by decide) ?_
        rcases hkm with ⟨z, -⟩ | ⟨-, rfl⟩ | ⟨rfl, -⟩
        · exfalso; rcases z with rfl | rfl <;> exact absurd c79 (by decide)
        · exact J89
        · exact absurd c79 (by decide)
    · -- X8_atom 69F
      have i69 := c69
      simp (disch := omega) only [i32_lt, i32_le, i32_eq, Int32.reduceToInt, nI_toInt] at i69
      refine x_bipush (v := 15) hκ dX8_atom_72 (by decide) ?_
      refine x_goto (tgt := 89) hκ dX8_atom_74 (by decide) ?_
      rcases hkm with ⟨-, rfl⟩ | ⟨rfl, -⟩ | ⟨rfl, -⟩
      · exact J89
      · exact absurd (by decide) c69
      · exact absurd (by decide) c69
  have J171 : ∀ kd : Int32, akd c = some (kd, none) → 0 ≤ kd.toInt → X κ (tG (kE κ) θ σ) 0 0 171 [some (.ref θ.1), some (.int c), some (.int kd), none] [] := by
    intro kd hk h0
    refine x_iload_n hκ dX8_atom_171 rfl ?_
    refine x_if_ge (tgt := 177) hκ dX8_atom_172 (by decide) (fun c172 => ?_) (fun c172 => ?_)
    · -- X8_atom 172T
      have i172 := c172
      simp (disch := omega) only [i32_lt, i32_le, i32_eq, Int32.reduceToInt, nI_toInt] at i172
      refine x_aload_n hκ dX8_atom_177 rfl ?_
      refine x_dup hκ dX8_atom_178 rfl ?_
      refine t_get hκ fl8_9 (by decide) (by decide) rfl (by (try simp (disch := omega) only [tS_1, tS_2, tA_1, tA_2, tF_1, tF_2, xl_0, xl_1, xl_2, Nat.reduceEqDiff, ↓reduceIte, nI_add, nI_1, nm_2, nm_3, nm_4, nm_6, nm_7, nm_8, nm_12, nm_16, nm_24, nm_40, nm_180, nm_300, nm_10210, na_0, na_2, na_3, na_4, na_5, na_6, na_7, na_8, nm_p, nm_m, nI_clamp, h9]); exact rfl) dX8_atom_179 ?_
      refine x_iconst (v := 1) hκ dX8_atom_182 (by decide) ?_
      refine x_iaddN hκ (by (try simp (disch := omega) only [tS_1, tS_2, tA_1, tA_2, tF_1, tF_2, xl_0, xl_1, xl_2, Nat.reduceEqDiff, ↓reduceIte, nI_add, nI_1, nm_2, nm_3, nm_4, nm_6, nm_7, nm_8, nm_12, nm_16, nm_24, nm_40, nm_180, nm_300, nm_10210, na_0, na_2, na_3, na_4, na_5, na_6, na_7, na_8, nm_p, nm_m, nI_clamp, h9]); exact rfl) dX8_atom_183 ?_
      refine t_put hκ fl8_9 (by decide) (by decide) rfl rfl rfl dX8_atom_184 ?_
      refine x_aload_n hκ dX8_atom_187 rfl ?_
      refine x_ldc hκ q1391 dX8_atom_188 ?_
      refine x_iload_n hκ dX8_atom_190 rfl ?_
      refine x_imulN hκ (by (try simp (disch := omega) only [tS_1, tS_2, tA_1, tA_2, tF_1, tF_2, xl_0, xl_1, xl_2, Nat.reduceEqDiff, ↓reduceIte, nI_add, nI_1, nm_2, nm_3, nm_4, nm_6, nm_7, nm_8, nm_12, nm_16, nm_24, nm_40, nm_180, nm_300, nm_10210, na_0, na_2, na_3, na_4, na_5, na_6, na_7, na_8, nm_p, nm_m, nI_clamp, h9]); exact rfl) dX8_atom_191 ?_
      refine t_callv hκ (mX8_put hθ (n := m) (by exact hm) hm2) (by omega) (by decide) wX8_155 aX8_put rfl (Nat.le_of_ble_eq_true rfl) dX8_atom_192 (fun σ192 h192 => ?_)
      subst h192
      refine x_iconst (v := 1) hκ dX8_atom_195 (by decide) ?_
      refine t_retz hκ hr rfl dX8_atom_196 (by first | exact Or.inl rfl | exact Or.inr rfl | assumption) ?_
      refine ⟨fun z => ?_, fun p z => ?_, fun e x z => ?_⟩
      · rw [atm_0 hk] at z; cases z
      · rw [atm_0 hk] at z; cases z
      · rw [atm_0 hk] at z
        cases z
        exact ⟨rfl, rfl⟩
    · -- X8_atom 172F
      have i172 := c172
      simp (disch := omega) only [i32_lt, i32_le, i32_eq, Int32.reduceToInt, nI_toInt] at i172
      omega
  refine x_iload_n hκ dX8_atom_0 rfl ?_
  refine x_bipush (v := 102) hκ dX8_atom_1 (by decide) ?_
  refine x_icmp_eq (tgt := 24) hκ dX8_atom_3 (by decide) (fun c3 => ?_) (fun c3 => ?_)
  · -- X8_atom 3T
    have i3 := c3
    simp (disch := omega) only [i32_lt, i32_le, i32_eq, Int32.reduceToInt, nI_toInt] at i3
    refine x_aload_n hκ dX8_atom_24 rfl ?_
    refine x_dup hκ dX8_atom_25 rfl ?_
    refine t_get hκ fl8_9 (by decide) (by decide) rfl (by (try simp (disch := omega) only [tS_1, tS_2, tA_1, tA_2, tF_1, tF_2, xl_0, xl_1, xl_2, Nat.reduceEqDiff, ↓reduceIte, nI_add, nI_1, nm_2, nm_3, nm_4, nm_6, nm_7, nm_8, nm_12, nm_16, nm_24, nm_40, nm_180, nm_300, nm_10210, na_0, na_2, na_3, na_4, na_5, na_6, na_7, na_8, nm_p, nm_m, nI_clamp, h9]); exact rfl) dX8_atom_26 ?_
    refine x_iconst (v := 1) hκ dX8_atom_29 (by decide) ?_
    refine x_iaddN hκ (by (try simp (disch := omega) only [tS_1, tS_2, tA_1, tA_2, tF_1, tF_2, xl_0, xl_1, xl_2, Nat.reduceEqDiff, ↓reduceIte, nI_add, nI_1, nm_2, nm_3, nm_4, nm_6, nm_7, nm_8, nm_12, nm_16, nm_24, nm_40, nm_180, nm_300, nm_10210, na_0, na_2, na_3, na_4, na_5, na_6, na_7, na_8, nm_p, nm_m, nI_clamp, h9]); exact rfl) dX8_atom_30 ?_
    refine t_put hκ fl8_9 (by decide) (by decide) rfl rfl rfl dX8_atom_31 ?_
    refine x_iload_n hκ dX8_atom_34 rfl ?_
    refine x_bipush (v := 102) hκ dX8_atom_35 (by decide) ?_
    refine x_icmp_ne (tgt := 44) hκ dX8_atom_37 (by decide) (fun c37 => ?_) (fun c37 => ?_)
    · -- X8_atom 37T
      have i37 := c37
      simp (disch := omega) only [i32_lt, i32_le, i32_eq, Int32.reduceToInt, nI_toInt] at i37
      exact absurd c3 c37
    · -- X8_atom 37F
      have i37 := c37
      simp (disch := omega) only [i32_lt, i32_le, i32_eq, Int32.reduceToInt, nI_toInt] at i37
      refine x_iconst (v := 0) hκ dX8_atom_40 (by decide) ?_
      refine x_goto (tgt := 65) hκ dX8_atom_41 (by decide) ?_
      refine x_istore_n hκ dX8_atom_65 (by rw [hL]; decide) rfl ?_
      exact J66 0 15 (by unfold akd; rw [if_pos c3]) (Or.inl ⟨Or.inl rfl, rfl⟩)
  · -- X8_atom 3F
    have i3 := c3
    simp (disch := omega) only [i32_lt, i32_le, i32_eq, Int32.reduceToInt, nI_toInt] at i3
    refine x_iload_n hκ dX8_atom_6 rfl ?_
    refine x_bipush (v := 116) hκ dX8_atom_7 (by decide) ?_
    refine x_icmp_eq (tgt := 24) hκ dX8_atom_9 (by decide) (fun c9 => ?_) (fun c9 => ?_)
    · -- X8_atom 9T
      have i9 := c9
      simp (disch := omega) only [i32_lt, i32_le, i32_eq, Int32.reduceToInt, nI_toInt] at i9
      refine x_aload_n hκ dX8_atom_24 rfl ?_
      refine x_dup hκ dX8_atom_25 rfl ?_
      refine t_get hκ fl8_9 (by decide) (by decide) rfl (by (try simp (disch := omega) only [tS_1, tS_2, tA_1, tA_2, tF_1, tF_2, xl_0, xl_1, xl_2, Nat.reduceEqDiff, ↓reduceIte, nI_add, nI_1, nm_2, nm_3, nm_4, nm_6, nm_7, nm_8, nm_12, nm_16, nm_24, nm_40, nm_180, nm_300, nm_10210, na_0, na_2, na_3, na_4, na_5, na_6, na_7, na_8, nm_p, nm_m, nI_clamp, h9]); exact rfl) dX8_atom_26 ?_
      refine x_iconst (v := 1) hκ dX8_atom_29 (by decide) ?_
      refine x_iaddN hκ (by (try simp (disch := omega) only [tS_1, tS_2, tA_1, tA_2, tF_1, tF_2, xl_0, xl_1, xl_2, Nat.reduceEqDiff, ↓reduceIte, nI_add, nI_1, nm_2, nm_3, nm_4, nm_6, nm_7, nm_8, nm_12, nm_16, nm_24, nm_40, nm_180, nm_300, nm_10210, na_0, na_2, na_3, na_4, na_5, na_6, na_7, na_8, nm_p, nm_m, nI_clamp, h9]); exact rfl) dX8_atom_30 ?_
      refine t_put hκ fl8_9 (by decide) (by decide) rfl rfl rfl dX8_atom_31 ?_
      refine x_iload_n hκ dX8_atom_34 rfl ?_
      refine x_bipush (v := 102) hκ dX8_atom_35 (by decide) ?_
      refine x_icmp_ne (tgt := 44) hκ dX8_atom_37 (by decide) (fun c37 => ?_) (fun c37 => ?_)
      · -- X8_atom 37T
        have i37 := c37
        simp (disch := omega) only [i32_lt, i32_le, i32_eq, Int32.reduceToInt, nI_toInt] at i37
        refine x_iload_n hκ dX8_atom_44 rfl ?_
        refine x_bipush (v := 116) hκ dX8_atom_45 (by decide) ?_
        refine x_icmp_ne (tgt := 54) hκ dX8_atom_47 (by decide) (fun c47 => ?_) (fun c47 => ?_)
        · -- X8_atom 47T
          have i47 := c47
          simp (disch := omega) only [i32_lt, i32_le, i32_eq, Int32.reduceToInt, nI_toInt] at i47
          exact absurd c9 c47
        · -- X8_atom 47F
          have i47 := c47
          simp (disch := omega) only [i32_lt, i32_le, i32_eq, Int32.reduceToInt, nI_toInt] at i47
          refine x_iconst (v := 1) hκ dX8_atom_50 (by decide) ?_
          refine x_goto (tgt := 65) hκ dX8_atom_51 (by decide) ?_
          refine x_istore_n hκ dX8_atom_65 (by rw [hL]; decide) rfl ?_
          exact J66 1 15 (by unfold akd; rw [if_neg c3, if_pos c9]) (Or.inl ⟨Or.inr rfl, rfl⟩)
      · -- X8_atom 37F
        have i37 := c37
        simp (disch := omega) only [i32_lt, i32_le, i32_eq, Int32.reduceToInt, nI_toInt] at i37
        rw [c37] at c9
        exact absurd c9 (by decide)
    · -- X8_atom 9F
      have i9 := c9
      simp (disch := omega) only [i32_lt, i32_le, i32_eq, Int32.reduceToInt, nI_toInt] at i9
      refine x_iload_n hκ dX8_atom_12 rfl ?_
      refine x_bipush (v := 119) hκ dX8_atom_13 (by decide) ?_
      refine x_icmp_eq (tgt := 24) hκ dX8_atom_15 (by decide) (fun c15 => ?_) (fun c15 => ?_)
      · -- X8_atom 15T
        have i15 := c15
        simp (disch := omega) only [i32_lt, i32_le, i32_eq, Int32.reduceToInt, nI_toInt] at i15
        refine x_aload_n hκ dX8_atom_24 rfl ?_
        refine x_dup hκ dX8_atom_25 rfl ?_
        refine t_get hκ fl8_9 (by decide) (by decide) rfl (by (try simp (disch := omega) only [tS_1, tS_2, tA_1, tA_2, tF_1, tF_2, xl_0, xl_1, xl_2, Nat.reduceEqDiff, ↓reduceIte, nI_add, nI_1, nm_2, nm_3, nm_4, nm_6, nm_7, nm_8, nm_12, nm_16, nm_24, nm_40, nm_180, nm_300, nm_10210, na_0, na_2, na_3, na_4, na_5, na_6, na_7, na_8, nm_p, nm_m, nI_clamp, h9]); exact rfl) dX8_atom_26 ?_
        refine x_iconst (v := 1) hκ dX8_atom_29 (by decide) ?_
        refine x_iaddN hκ (by (try simp (disch := omega) only [tS_1, tS_2, tA_1, tA_2, tF_1, tF_2, xl_0, xl_1, xl_2, Nat.reduceEqDiff, ↓reduceIte, nI_add, nI_1, nm_2, nm_3, nm_4, nm_6, nm_7, nm_8, nm_12, nm_16, nm_24, nm_40, nm_180, nm_300, nm_10210, na_0, na_2, na_3, na_4, na_5, na_6, na_7, na_8, nm_p, nm_m, nI_clamp, h9]); exact rfl) dX8_atom_30 ?_
        refine t_put hκ fl8_9 (by decide) (by decide) rfl rfl rfl dX8_atom_31 ?_
        refine x_iload_n hκ dX8_atom_34 rfl ?_
        refine x_bipush (v := 102) hκ dX8_atom_35 (by decide) ?_
        refine x_icmp_ne (tgt := 44) hκ dX8_atom_37 (by decide) (fun c37 => ?_) (fun c37 => ?_)
        · -- X8_atom 37T
          have i37 := c37
          simp (disch := omega) only [i32_lt, i32_le, i32_eq, Int32.reduceToInt, nI_toInt] at i37
          refine x_iload_n hκ dX8_atom_44 rfl ?_
          refine x_bipush (v := 116) hκ dX8_atom_45 (by decide) ?_
          refine x_icmp_ne (tgt := 54) hκ dX8_atom_47 (by decide) (fun c47 => ?_) (fun c47 => ?_)
          · -- X8_atom 47T
            have i47 := c47
            simp (disch := omega) only [i32_lt, i32_le, i32_eq, Int32.reduceToInt, nI_toInt] at i47
            refine x_iload_n hκ dX8_atom_54 rfl ?_
            refine x_bipush (v := 119) hκ dX8_atom_55 (by decide) ?_
            refine x_icmp_ne (tgt := 64) hκ dX8_atom_57 (by decide) (fun c57 => ?_) (fun c57 => ?_)
            · -- X8_atom 57T
              have i57 := c57
              simp (disch := omega) only [i32_lt, i32_le, i32_eq, Int32.reduceToInt, nI_toInt] at i57
              exact absurd c15 c57
            · -- X8_atom 57F
              have i57 := c57
              simp (disch := omega) only [i32_lt, i32_le, i32_eq, Int32.reduceToInt, nI_toInt] at i57
              refine x_iconst (v := 2) hκ dX8_atom_60 (by decide) ?_
              refine x_goto (tgt := 65) hκ dX8_atom_61 (by decide) ?_
              refine x_istore_n hκ dX8_atom_65 (by rw [hL]; decide) rfl ?_
              exact J66 2 11 (by unfold akd; rw [if_neg c3, if_neg c9, if_pos c15]) (Or.inr (Or.inl ⟨rfl, rfl⟩))
          · -- X8_atom 47F
            have i47 := c47
            simp (disch := omega) only [i32_lt, i32_le, i32_eq, Int32.reduceToInt, nI_toInt] at i47
            rw [c47] at c15
            exact absurd c15 (by decide)
        · -- X8_atom 37F
          have i37 := c37
          simp (disch := omega) only [i32_lt, i32_le, i32_eq, Int32.reduceToInt, nI_toInt] at i37
          rw [c37] at c15
          exact absurd c15 (by decide)
      · -- X8_atom 15F
        have i15 := c15
        simp (disch := omega) only [i32_lt, i32_le, i32_eq, Int32.reduceToInt, nI_toInt] at i15
        refine x_iload_n hκ dX8_atom_18 rfl ?_
        refine x_bipush (v := 62) hκ dX8_atom_19 (by decide) ?_
        refine x_icmp_ne (tgt := 105) hκ dX8_atom_21 (by decide) (fun c21 => ?_) (fun c21 => ?_)
        · -- X8_atom 21T
          have i21 := c21
          simp (disch := omega) only [i32_lt, i32_le, i32_eq, Int32.reduceToInt, nI_toInt] at i21
          refine x_iload_n hκ dX8_atom_105 rfl ?_
          refine x_bipush (v := 108) hκ dX8_atom_106 (by decide) ?_
          refine x_icmp_ne (tgt := 115) hκ dX8_atom_108 (by decide) (fun c108 => ?_) (fun c108 => ?_)
          · -- X8_atom 108T
            have i108 := c108
            simp (disch := omega) only [i32_lt, i32_le, i32_eq, Int32.reduceToInt, nI_toInt] at i108
            refine x_iload_n hκ dX8_atom_115 rfl ?_
            refine x_bipush (v := 97) hκ dX8_atom_116 (by decide) ?_
            refine x_icmp_ne (tgt := 125) hκ dX8_atom_118 (by decide) (fun c118 => ?_) (fun c118 => ?_)
            · -- X8_atom 118T
              have i118 := c118
              simp (disch := omega) only [i32_lt, i32_le, i32_eq, Int32.reduceToInt, nI_toInt] at i118
              refine x_iload_n hκ dX8_atom_125 rfl ?_
              refine x_bipush (v := 106) hκ dX8_atom_126 (by decide) ?_
              refine x_icmp_ne (tgt := 136) hκ dX8_atom_128 (by decide) (fun c128 => ?_) (fun c128 => ?_)
              · -- X8_atom 128T
                have i128 := c128
                simp (disch := omega) only [i32_lt, i32_le, i32_eq, Int32.reduceToInt, nI_toInt] at i128
                refine x_iload_n hκ dX8_atom_136 rfl ?_
                refine x_bipush (v := 100) hκ dX8_atom_137 (by decide) ?_
                refine x_icmp_ne (tgt := 147) hκ dX8_atom_139 (by decide) (fun c139 => ?_) (fun c139 => ?_)
                · -- X8_atom 139T
                  have i139 := c139
                  simp (disch := omega) only [i32_lt, i32_le, i32_eq, Int32.reduceToInt, nI_toInt] at i139
                  refine x_iload_n hκ dX8_atom_147 rfl ?_
                  refine x_bipush (v := 114) hκ dX8_atom_148 (by decide) ?_
                  refine x_icmp_ne (tgt := 158) hκ dX8_atom_150 (by decide) (fun c150 => ?_) (fun c150 => ?_)
                  · -- X8_atom 150T
                    have i150 := c150
                    simp (disch := omega) only [i32_lt, i32_le, i32_eq, Int32.reduceToInt, nI_toInt] at i150
                    refine x_iload_n hκ dX8_atom_158 rfl ?_
                    refine x_bipush (v := 42) hκ dX8_atom_159 (by decide) ?_
                    refine x_icmp_ne (tgt := 169) hκ dX8_atom_161 (by decide) (fun c161 => ?_) (fun c161 => ?_)
                    · -- X8_atom 161T
                      have i161 := c161
                      simp (disch := omega) only [i32_lt, i32_le, i32_eq, Int32.reduceToInt, nI_toInt] at i161
                      refine x_iconst (v := (-1)) hκ dX8_atom_169 (by decide) ?_
                      refine x_istore_n hκ dX8_atom_170 (by rw [hL]; decide) rfl ?_
                      refine x_iload_n hκ dX8_atom_171 rfl ?_
                      refine x_if_ge (tgt := 177) hκ dX8_atom_172 (by decide) (fun c172 => ?_) (fun c172 => ?_)
                      · -- X8_atom 172T
                        have i172 := c172
                        simp (disch := omega) only [i32_lt, i32_le, i32_eq, Int32.reduceToInt, nI_toInt] at i172
                        exact absurd c172 (by decide)
                      · -- X8_atom 172F
                        have i172 := c172
                        simp (disch := omega) only [i32_lt, i32_le, i32_eq, Int32.reduceToInt, nI_toInt] at i172
                        refine x_iconst (v := 0) hκ dX8_atom_175 (by decide) ?_
                        refine t_retz hκ hr rfl dX8_atom_176 (by first | exact Or.inl rfl | exact Or.inr rfl | assumption) ?_
                        have hk : akd c = none := by unfold akd; rw [if_neg c3, if_neg c9, if_neg c15, if_neg c21, if_neg c108, if_neg c118, if_neg c128, if_neg c139, if_neg c150, if_neg c161]
                        exact ⟨fun _ => ⟨rfl, rfl⟩, fun p z => (by rw [atm_n hk] at z; cases z), fun e x z => (by rw [atm_n hk] at z; cases z)⟩
                    · -- X8_atom 161F
                      have i161 := c161
                      simp (disch := omega) only [i32_lt, i32_le, i32_eq, Int32.reduceToInt, nI_toInt] at i161
                      refine x_bipush (v := 9) hκ dX8_atom_164 (by decide) ?_
                      refine x_goto (tgt := 170) hκ dX8_atom_166 (by decide) ?_
                      refine x_istore_n hκ dX8_atom_170 (by rw [hL]; decide) rfl ?_
                      exact J171 9 (by unfold akd; rw [if_neg c3, if_neg c9, if_neg c15, if_neg c21, if_neg c108, if_neg c118, if_neg c128, if_neg c139, if_neg c150, if_pos c161]) (by decide)
                  · -- X8_atom 150F
                    have i150 := c150
                    simp (disch := omega) only [i32_lt, i32_le, i32_eq, Int32.reduceToInt, nI_toInt] at i150
                    refine x_bipush (v := 8) hκ dX8_atom_153 (by decide) ?_
                    refine x_goto (tgt := 170) hκ dX8_atom_155 (by decide) ?_
                    refine x_istore_n hκ dX8_atom_170 (by rw [hL]; decide) rfl ?_
                    exact J171 8 (by unfold akd; rw [if_neg c3, if_neg c9, if_neg c15, if_neg c21, if_neg c108, if_neg c118, if_neg c128, if_neg c139, if_pos c150]) (by decide)
                · -- X8_atom 139F
                  have i139 := c139
                  simp (disch := omega) only [i32_lt, i32_le, i32_eq, Int32.reduceToInt, nI_toInt] at i139
                  refine x_bipush (v := 7) hκ dX8_atom_142 (by decide) ?_
                  refine x_goto (tgt := 170) hκ dX8_atom_144 (by decide) ?_
                  refine x_istore_n hκ dX8_atom_170 (by rw [hL]; decide) rfl ?_
                  exact J171 7 (by unfold akd; rw [if_neg c3, if_neg c9, if_neg c15, if_neg c21, if_neg c108, if_neg c118, if_neg c128, if_pos c139]) (by decide)
              · -- X8_atom 128F
                have i128 := c128
                simp (disch := omega) only [i32_lt, i32_le, i32_eq, Int32.reduceToInt, nI_toInt] at i128
                refine x_bipush (v := 6) hκ dX8_atom_131 (by decide) ?_
                refine x_goto (tgt := 170) hκ dX8_atom_133 (by decide) ?_
                refine x_istore_n hκ dX8_atom_170 (by rw [hL]; decide) rfl ?_
                exact J171 6 (by unfold akd; rw [if_neg c3, if_neg c9, if_neg c15, if_neg c21, if_neg c108, if_neg c118, if_pos c128]) (by decide)
            · -- X8_atom 118F
              have i118 := c118
              simp (disch := omega) only [i32_lt, i32_le, i32_eq, Int32.reduceToInt, nI_toInt] at i118
              refine x_iconst (v := 5) hκ dX8_atom_121 (by decide) ?_
              refine x_goto (tgt := 170) hκ dX8_atom_122 (by decide) ?_
              refine x_istore_n hκ dX8_atom_170 (by rw [hL]; decide) rfl ?_
              exact J171 5 (by unfold akd; rw [if_neg c3, if_neg c9, if_neg c15, if_neg c21, if_neg c108, if_pos c118]) (by decide)
          · -- X8_atom 108F
            have i108 := c108
            simp (disch := omega) only [i32_lt, i32_le, i32_eq, Int32.reduceToInt, nI_toInt] at i108
            refine x_iconst (v := 4) hκ dX8_atom_111 (by decide) ?_
            refine x_goto (tgt := 170) hκ dX8_atom_112 (by decide) ?_
            refine x_istore_n hκ dX8_atom_170 (by rw [hL]; decide) rfl ?_
            exact J171 4 (by unfold akd; rw [if_neg c3, if_neg c9, if_neg c15, if_neg c21, if_pos c108]) (by decide)
        · -- X8_atom 21F
          have i21 := c21
          simp (disch := omega) only [i32_lt, i32_le, i32_eq, Int32.reduceToInt, nI_toInt] at i21
          refine x_aload_n hκ dX8_atom_24 rfl ?_
          refine x_dup hκ dX8_atom_25 rfl ?_
          refine t_get hκ fl8_9 (by decide) (by decide) rfl (by (try simp (disch := omega) only [tS_1, tS_2, tA_1, tA_2, tF_1, tF_2, xl_0, xl_1, xl_2, Nat.reduceEqDiff, ↓reduceIte, nI_add, nI_1, nm_2, nm_3, nm_4, nm_6, nm_7, nm_8, nm_12, nm_16, nm_24, nm_40, nm_180, nm_300, nm_10210, na_0, na_2, na_3, na_4, na_5, na_6, na_7, na_8, nm_p, nm_m, nI_clamp, h9]); exact rfl) dX8_atom_26 ?_
          refine x_iconst (v := 1) hκ dX8_atom_29 (by decide) ?_
          refine x_iaddN hκ (by (try simp (disch := omega) only [tS_1, tS_2, tA_1, tA_2, tF_1, tF_2, xl_0, xl_1, xl_2, Nat.reduceEqDiff, ↓reduceIte, nI_add, nI_1, nm_2, nm_3, nm_4, nm_6, nm_7, nm_8, nm_12, nm_16, nm_24, nm_40, nm_180, nm_300, nm_10210, na_0, na_2, na_3, na_4, na_5, na_6, na_7, na_8, nm_p, nm_m, nI_clamp, h9]); exact rfl) dX8_atom_30 ?_
          refine t_put hκ fl8_9 (by decide) (by decide) rfl rfl rfl dX8_atom_31 ?_
          refine x_iload_n hκ dX8_atom_34 rfl ?_
          refine x_bipush (v := 102) hκ dX8_atom_35 (by decide) ?_
          refine x_icmp_ne (tgt := 44) hκ dX8_atom_37 (by decide) (fun c37 => ?_) (fun c37 => ?_)
          · -- X8_atom 37T
            have i37 := c37
            simp (disch := omega) only [i32_lt, i32_le, i32_eq, Int32.reduceToInt, nI_toInt] at i37
            refine x_iload_n hκ dX8_atom_44 rfl ?_
            refine x_bipush (v := 116) hκ dX8_atom_45 (by decide) ?_
            refine x_icmp_ne (tgt := 54) hκ dX8_atom_47 (by decide) (fun c47 => ?_) (fun c47 => ?_)
            · -- X8_atom 47T
              have i47 := c47
              simp (disch := omega) only [i32_lt, i32_le, i32_eq, Int32.reduceToInt, nI_toInt] at i47
              refine x_iload_n hκ dX8_atom_54 rfl ?_
              refine x_bipush (v := 119) hκ dX8_atom_55 (by decide) ?_
              refine x_icmp_ne (tgt := 64) hκ dX8_atom_57 (by decide) (fun c57 => ?_) (fun c57 => ?_)
              · -- X8_atom 57T
                have i57 := c57
                simp (disch := omega) only [i32_lt, i32_le, i32_eq, Int32.reduceToInt, nI_toInt] at i57
                refine x_iconst (v := 3) hκ dX8_atom_64 (by decide) ?_
                refine x_istore_n hκ dX8_atom_65 (by rw [hL]; decide) rfl ?_
                exact J66 3 60000 (by unfold akd; rw [if_neg c3, if_neg c9, if_neg c15, if_pos c21]) (Or.inr (Or.inr ⟨rfl, rfl⟩))
              · -- X8_atom 57F
                have i57 := c57
                simp (disch := omega) only [i32_lt, i32_le, i32_eq, Int32.reduceToInt, nI_toInt] at i57
                rw [c57] at c21
                exact absurd c21 (by decide)
            · -- X8_atom 47F
              have i47 := c47
              simp (disch := omega) only [i32_lt, i32_le, i32_eq, Int32.reduceToInt, nI_toInt] at i47
              rw [c47] at c21
              exact absurd c21 (by decide)
          · -- X8_atom 37F
            have i37 := c37
            simp (disch := omega) only [i32_lt, i32_le, i32_eq, Int32.reduceToInt, nI_toInt] at i37
            rw [c37] at c21
            exact absurd c21 (by decide)
