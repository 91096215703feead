theorem wX8_138 : GoodIn lw_all (wsV RX8 138 RX8 yX8_next (ws_ yX8_next cX8_next 1 (some .int))) := lw_V q1370 q1372 qs35 q82 q1373
theorem aX8_next : yX8_next.cls = RX8 ∧ yX8_next.cls ≠ "java/lang/invoke/MethodHandle" ∧ yX8_next.cls ≠ "java/lang/invoke/VarHandle" ∧ (parseMethodDescriptor yX8_next.desc).map (fun d => d.parameters.length) = some 0 := by decide +kernel
theorem wX8_142 : GoodIn lw_all (wsV RX8 142 RX8 yX8_fails (ws_ yX8_fails cX8_fails 2 none)) := lw_V q1378 q1380 qs37 q82 q1381
theorem aX8_fails : yX8_fails.cls = RX8 ∧ yX8_fails.cls ≠ "java/lang/invoke/MethodHandle" ∧ yX8_fails.cls ≠ "java/lang/invoke/VarHandle" ∧ (parseMethodDescriptor yX8_fails.desc).map (fun d => d.parameters.length) = some 1 := by decide +kernel
/-! the reference: numbers, atoms -/
abbrev dgt (T : Nat → Int32) (N a : Nat) : Prop := a < N ∧ 48 ≤ (T a).toInt ∧ (T a).toInt ≤ 57
/-- where the digits end -/
def nEF (T : Nat → Int32) (N : Nat) : Nat → Nat → Nat
  | 0, a => a
  | f + 1, a => if dgt T N a then nEF T N f (a + 1) else a
def nE (T : Nat → Int32) (N a : Nat) : Nat := nEF T N (N - a) a
theorem nE_go {T : Nat → Int32} {N a : Nat} (h : dgt T N a) : nE T N a = nE T N (a + 1) := by
  unfold nE
  have := h.1
  rw [show N - a = (N - (a + 1)) + 1 by omega, nEF, if_pos h]
theorem nE_at {T : Nat → Int32} {N a : Nat} (h : ¬ dgt T N a) : nE T N a = a := by
  unfold nE
  cases hf : N - a with
  | zero => rfl
  | succ f => rw [nEF, if_neg h]
/-- k digits from a on -/
def nV (T : Nat → Int32) (a : Nat) : Nat → Int32
  | 0 => 0
  | k + 1 => 10 * nV T a k + T (a + k) - 48
/-- a number up to most: where none may stand, the fault's place -/
def nm (T : Nat → Int32) (N a : Nat) (most : Int32) : Nat ⊕ (Nat × Int32) :=
  if dgt T N (skp T N a) then (if 5 < nE T N (skp T N a) - skp T N a ∨ most.toInt < (nV T (skp T N a) (nE T N (skp T N a) - skp T N a)).toInt then .inl (skp T N a) else .inr (nE T N (skp T N a), nV T (skp T N a) (nE T N (skp T N a) - skp T N a)))
  else .inl (skp T N a)
theorem skp_le {T : Nat → Int32} {N : Nat} : ∀ (f a : Nat), a ≤ skF T N f a ∧ (skF T N f a ≤ a ∨ skF T N f a ≤ N)
  | 0, a => ⟨Nat.le_refl _, Or.inl (Nat.le_refl _)⟩
  | f + 1, a => by
    rw [skF]
    split
    · have := skp_le (T := T) (N := N) f (a + 1)
      omega
    · exact ⟨Nat.le_refl _, Or.inl (Nat.le_refl _)⟩
theorem nE_le {T : Nat → Int32} {N : Nat} : ∀ (f a : Nat), a ≤ nEF T N f a ∧ (nEF T N f a ≤ a ∨ nEF T N f a ≤ N)
  | 0, a => ⟨Nat.le_refl _, Or.inl (Nat.le_refl _)⟩
  | f + 1, a => by
    rw [nEF]
    split
    · have := nE_le (T := T) (N := N) f (a + 1)
      have hd : dgt T N a := by assumption
      have := hd.1
      omega
    · exact ⟨Nat.le_refl _, Or.inl (Nat.le_refl _)⟩
/-- the fault is noted, if it's the first -/
def flt (σ : TS) (p : Nat) : TS := tS σ 10 (if (σ.1 10).toInt < 0 then nI p else σ.1 10)
theorem mX8_number {E : gE} {θ : TA} (hθ : tOk θ) {σ : TS} {a N : Nat} (h9 : σ.1 9 = nI a) (hT : σ.1 1 = nI N) (hN : N ≤ 90) (ha : a ≤ 200) {most : Int32} : TMi E θ σ yX8_number cX8_number 4 .int 1 [.int most] (fun r σ' => (∀ p, nm (σ.2 0) N a most = .inl p → ∃ b, b ≤ 200 ∧ σ' = flt (tS σ 9 (nI b)) p) ∧ ∀ e v, nm (σ.2 0) N a most = .inr (e, v) → r = v ∧ σ' = tS σ 9 (nI e)) := by
  refine TMi.of (by decide) (Nat.le_of_ble_eq_true rfl) ?_
  rintro κ rfl hL hκ hr
  have hle := skp_le (T := σ.2 0) (N := N) (N - a) a
  generalize hs : skp (σ.2 0) N a = a1
  rw [show skF (σ.2 0) N (N - a) a = a1 from hs] at hle
  have loop : dgt (σ.2 0) N a1 → ∀ (q k : Nat) (v : Int32), a1 + k ≤ N → N - (a1 + k) < q → nE (σ.2 0) N (a1 + k) = nE (σ.2 0) N a1 → (k ≤ 6 → v = nV (σ.2 0) a1 k) → X κ (tG (kE κ) θ (tS σ 9 (nI (a1 + k)))) 0 0 31 [some (.ref θ.1), some (.int most), some (.int (nI a1)), some (.int v)] [] := by
    intro hd0 q
    have hd1 := hd0.1
    induction q with
    | zero => intro k v h1 h2; exact absurd h2 (Nat.not_lt_zero _)
    | succ q ih =>
      intro k v hk hq he hv
      have hsub : nI (a1 + k) - nI a1 = nI k := by rw [pk_sub (by omega)]; congr 1; omega
      have ends : ¬ dgt (σ.2 0) N (a1 + k) → nE (σ.2 0) N a1 = a1 + k := fun z => by rw [← he, nE_at z]
      have J107 : ¬ dgt (σ.2 0) N (a1 + k) → X κ (tG (kE κ) θ (tS σ 9 (nI (a1 + k)))) 0 0 107 [some (.ref θ.1), some (.int most), some (.int (nI a1)), some (.int v)] [] := by
        intro hnd
        have hE := ends hnd
        refine x_aload_n hκ dX8_number_107 rfl ?_
        refine t_get hκ fl8_9 (by decide) (by decide) rfl (by (try simp (disch := omega) only [tS_1, tS_2, tA_1, tA_2, tF_1, tF_2, xl_0, xl_1, xl_2, Nat.reduceEqDiff, ↓reduceIte, nI_add, nI_1, nm_2, nm_3, nm_4, nm_6, nm_7, nm_8, nm_12, nm_16, nm_24, nm_40, nm_180, nm_300, nm_10210, na_0, na_2, na_3, na_4, na_5, na_6, na_7, na_8, nm_p, nm_m, nI_clamp, hsub]); exact rfl) dX8_number_108 ?_
        refine x_iload_n hκ dX8_number_111 rfl ?_
        refine x_isubN hκ (by (try simp (disch := omega) only [tS_1, tS_2, tA_1, tA_2, tF_1, tF_2, xl_0, xl_1, xl_2, Nat.reduceEqDiff, ↓reduceIte, nI_add, nI_1, nm_2, nm_3, nm_4, nm_6, nm_7, nm_8, nm_12, nm_16, nm_24, nm_40, nm_180, nm_300, nm_10210, na_0, na_2, na_3, na_4, na_5, na_6, na_7, na_8, nm_p, nm_m, nI_clamp, hsub]); exact rfl) dX8_number_112 ?_
        refine x_iconst (v := 5) hκ dX8_number_113 (by decide) ?_
        refine x_icmp_gt (tgt := 122) hκ dX8_number_114 (by decide) (fun c114 => ?_) (fun c114 => ?_)
        · -- X8_number 114T
          have i114 := c114
          simp (disch := omega) only [i32_lt, i32_le, i32_eq, Int32.reduceToInt, nI_toInt] at i114
          refine x_aload_n hκ dX8_number_122 rfl ?_
          refine x_iload_n hκ dX8_number_123 rfl ?_
          refine t_callv hκ (mX8_fails hθ) (by omega) (by decide) wX8_142 aX8_fails rfl (Nat.le_of_ble_eq_true rfl) dX8_number_124 (fun σ124 h124 => ?_)
          subst h124
          refine x_iload_n hκ dX8_number_127 rfl ?_
          refine t_reti hκ hr rfl dX8_number_128 ?_
          refine ⟨fun p hp => ?_, fun e v2 hp => ?_⟩
          · rw [nm, hs, if_pos hd0, hE, if_pos (Or.inl (by omega))] at hp
            cases hp
            exact ⟨a1 + k, by omega, rfl⟩
          · rw [nm, hs, if_pos hd0, hE, if_pos (Or.inl (by omega))] at hp
            cases hp
        · -- X8_number 114F
          have i114 := c114
          simp (disch := omega) only [i32_lt, i32_le, i32_eq, Int32.reduceToInt, nI_toInt] at i114
          refine x_iload_n hκ dX8_number_117 rfl ?_
          refine x_iload_n hκ dX8_number_118 rfl ?_
          refine x_icmp_le (tgt := 127) hκ dX8_number_119 (by decide) (fun c119 => ?_) (fun c119 => ?_)
          · -- X8_number 119T
            have i119 := c119
            simp (disch := omega) only [i32_lt, i32_le, i32_eq, Int32.reduceToInt, nI_toInt] at i119
            refine x_iload_n hκ dX8_number_127 rfl ?_
            refine t_reti hκ hr rfl dX8_number_128 ?_
            have hv2 := hv (by omega)
            have ek : a1 + k - a1 = k := by omega
            refine ⟨fun p hp => ?_, fun e v2 hp => ?_⟩
            · rw [nm, hs, if_pos hd0, hE, ek, ← hv2, if_neg (by omega)] at hp
              cases hp
            · rw [nm, hs, if_pos hd0, hE, ek, ← hv2, if_neg (by omega)] at hp
              cases hp
              exact ⟨rfl, rfl⟩
          · -- X8_number 119F
            have i119 := c119
            simp (disch := omega) only [i32_lt, i32_le, i32_eq, Int32.reduceToInt, nI_toInt] at i119
            refine x_aload_n hκ dX8_number_122 rfl ?_
            refine x_iload_n hκ dX8_number_123 rfl ?_
            refine t_callv hκ (mX8_fails hθ) (by omega) (by decide) wX8_142 aX8_fails rfl (Nat.le_of_ble_eq_true rfl) dX8_number_124 (fun σ124 h124 => ?_)
            subst h124
            refine x_iload_n hκ dX8_number_127 rfl ?_
            refine t_reti hκ hr rfl dX8_number_128 ?_
            have hv2 := hv (by omega)
            have ek : a1 + k - a1 = k := by omega
            refine ⟨fun p hp => ?_, fun e v2 hp => ?_⟩
            · rw [nm, hs, if_pos hd0, hE, ek, ← hv2, if_pos (Or.inr (by omega))] at hp
              cases hp
              exact ⟨a1 + k, by omega, rfl⟩
            · rw [nm, hs, if_pos hd0, hE, ek, ← hv2, if_pos (Or.inr (by omega))] at hp
              cases hp
      refine x_aload_n hκ dX8_number_31 rfl ?_
      refine t_get hκ fl8_9 (by decide) (by decide) rfl (by (try simp (disch := omega) only [tS_1, tS_2, tA_1, tA_2, tF_1, tF_2, xl_0, xl_1, xl_2, Nat.reduceEqDiff, ↓reduceIte, nI_add, nI_1, nm_2, nm_3, nm_4, nm_6, nm_7, nm_8, nm_12, nm_16, nm_24, nm_40, nm_180, nm_300, nm_10210, na_0, na_2, na_3, na_4, na_5, na_6, na_7, na_8, nm_p, nm_m, nI_clamp, hT, hsub]); exact rfl) dX8_number_32 ?_
      refine x_aload_n hκ dX8_number_35 rfl ?_
      refine t_get hκ fl8_1 (by decide) (by decide) rfl (by (try simp (disch := omega) only [tS_1, tS_2, tA_1, tA_2, tF_1, tF_2, xl_0, xl_1, xl_2, Nat.reduceEqDiff, ↓reduceIte, nI_add, nI_1, nm_2, nm_3, nm_4, nm_6, nm_7, nm_8, nm_12, nm_16, nm_24, nm_40, nm_180, nm_300, nm_10210, na_0, na_2, na_3, na_4, na_5, na_6, na_7, na_8, nm_p, nm_m, nI_clamp, hT, hsub]); exact rfl) dX8_number_36 ?_
      refine x_icmp_ge (tgt := 107) hκ dX8_number_39 (by decide) (fun c39 => ?_) (fun c39 => ?_)
      · -- X8_number 39T
        have i39 := c39
        simp (disch := omega) only [i32_lt, i32_le, i32_eq, Int32.reduceToInt, nI_toInt] at i39
        exact J107 (fun z => by have := z.1; omega)
      · -- X8_number 39F
        have i39 := c39
        simp (disch := omega) only [i32_lt, i32_le, i32_eq, Int32.reduceToInt, nI_toInt] at i39
        refine x_aload_n hκ dX8_number_42 rfl ?_
        refine t_getA hκ fl8_0 (by decide) (by decide) rfl dX8_number_43 ?_
        refine x_aload_n hκ dX8_number_46 rfl ?_
        refine t_get hκ fl8_9 (by decide) (by decide) rfl (by (try simp (disch := omega) only [tS_1, tS_2, tA_1, tA_2, tF_1, tF_2, xl_0, xl_1, xl_2, Nat.reduceEqDiff, ↓reduceIte, nI_add, nI_1, nm_2, nm_3, nm_4, nm_6, nm_7, nm_8, nm_12, nm_16, nm_24, nm_40, nm_180, nm_300, nm_10210, na_0, na_2, na_3, na_4, na_5, na_6, na_7, na_8, nm_p, nm_m, nI_clamp, hT, hsub]); exact rfl) dX8_number_47 ?_
        refine t_iald (n := 90) hκ hθ (by decide) rfl rfl (by first | ((with_reducible refine vp_in_nI ?_ ?_) <;> omega) | exact i32_in (by omega) (by omega) | exact i32_in' (by simp only [Int32.toInt_add, Int32.toInt_mul, Int32.toInt_sub, Int32.reduceToInt, Int.bmod_add_bmod, Int.bmod_sub_bmod, Int.add_bmod_bmod, Int.sub_bmod_bmod, Int.bmod_mul_bmod, Int.mul_bmod_bmod]; exact i32_bm (by omega) (by omega)) (by omega) (by omega) | exact i32_in (by decide) (by decide)) (by (try simp (disch := omega) only [tS_1, tS_2, tA_1, tA_2, tF_1, tF_2, xl_0, xl_1, xl_2, Nat.reduceEqDiff, ↓reduceIte, nI_add, nI_1, nm_2, nm_3, nm_4, nm_6, nm_7, nm_8, nm_12, nm_16, nm_24, nm_40, nm_180, nm_300, nm_10210, na_0, na_2, na_3, na_4, na_5, na_6, na_7, na_8, nm_p, nm_m, nI_clamp, hT, hsub]); exact rfl) dX8_number_50 ?_
        refine x_bipush (v := 48) hκ dX8_number_51 (by decide) ?_
        refine x_bipush (v := 57) hκ dX8_number_53 (by decide) ?_
        refine x_callSi hκ mX8_in (by omega) (by decide) wX8_122 aX8_in rfl (Nat.le_of_ble_eq_true rfl) dX8_number_55 (fun r55 h55 => ?_)
        refine x_if_eq (tgt := 107) hκ dX8_number_58 (by decide) (fun c58 => ?_) (fun c58 => ?_)
        · -- X8_number 58T
          have i58 := h55.f c58
          try simp only [Int32.reduceToInt] at i58
          exact J107 (fun z => i58 z.2)
        · -- X8_number 58F
          have i58 := h55.t c58
          try simp only [Int32.reduceToInt] at i58
          refine x_aload_n hκ dX8_number_61 rfl ?_
          refine t_get hκ fl8_9 (by decide) (by decide) rfl (by (try simp (disch := omega) only [tS_1, tS_2, tA_1, tA_2, tF_1, tF_2, xl_0, xl_1, xl_2, Nat.reduceEqDiff, ↓reduceIte, nI_add, nI_1, nm_2, nm_3, nm_4, nm_6, nm_7, nm_8, nm_12, nm_16, nm_24, nm_40, nm_180, nm_300, nm_10210, na_0, na_2, na_3, na_4, na_5, na_6, na_7, na_8, nm_p, nm_m, nI_clamp, hT, hsub]); exact rfl) dX8_number_62 ?_
          refine x_iload_n hκ dX8_number_65 rfl ?_
          refine x_isubN hκ (by (try simp (disch := omega) only [tS_1, tS_2, tA_1, tA_2, tF_1, tF_2, xl_0, xl_1, xl_2, Nat.reduceEqDiff, ↓reduceIte, nI_add, nI_1, nm_2, nm_3, nm_4, nm_6, nm_7, nm_8, nm_12, nm_16, nm_24, nm_40, nm_180, nm_300, nm_10210, na_0, na_2, na_3, na_4, na_5, na_6, na_7, na_8, nm_p, nm_m, nI_clamp, hT, hsub]); exact rfl) dX8_number_66 ?_
          refine x_bipush (v := 6) hκ dX8_number_67 (by decide) ?_
          refine x_icmp_ge (tgt := 92) hκ dX8_number_69 (by decide) (fun c69 => ?_) (fun c69 => ?_)
          · -- X8_number 69T
            have i69 := c69
            simp (disch := omega) only [i32_lt, i32_le, i32_eq, Int32.reduceToInt, nI_toInt] at i69
            refine x_iload_n hκ dX8_number_92 rfl ?_
            refine x_istore_n hκ dX8_number_93 (by rw [hL]; decide) rfl ?_
            refine x_aload_n hκ dX8_number_94 rfl ?_
            refine x_dup hκ dX8_number_95 rfl ?_
            refine t_get hκ fl8_9 (by decide) (by decide) rfl (by (try simp (disch := omega) only [tS_1, tS_2, tA_1, tA_2, tF_1, tF_2, xl_0, xl_1, xl_2, Nat.reduceEqDiff, ↓reduceIte, nI_add, nI_1, nm_2, nm_3, nm_4, nm_6, nm_7, nm_8, nm_12, nm_16, nm_24, nm_40, nm_180, nm_300, nm_10210, na_0, na_2, na_3, na_4, na_5, na_6, na_7, na_8, nm_p, nm_m, nI_clamp, hT, hsub]); exact rfl) dX8_number_96 ?_
            refine x_iconst (v := 1) hκ dX8_number_99 (by decide) ?_
            refine x_iaddN hκ (by (try simp (disch := omega) only [tS_1, tS_2, tA_1, tA_2, tF_1, tF_2, xl_0, xl_1, xl_2, Nat.reduceEqDiff, ↓reduceIte, nI_add, nI_1, nm_2, nm_3, nm_4, nm_6, nm_7, nm_8, nm_12, nm_16, nm_24, nm_40, nm_180, nm_300, nm_10210, na_0, na_2, na_3, na_4, na_5, na_6, na_7, na_8, nm_p, nm_m, nI_clamp, hT, hsub]); exact rfl) dX8_number_100 ?_
            refine t_put hκ fl8_9 (by decide) (by decide) rfl rfl rfl dX8_number_101 ?_
            refine x_goto (tgt := 31) hκ dX8_number_104 (by decide) ?_
            rw [tS_tS]
            exact ih (k + 1) v (by omega) (by omega) (by rw [← he, nE_go ⟨by omega, i58⟩]; rfl) (fun z => by omega)
          · -- X8_number 69F
            have i69 := c69
            simp (disch := omega) only [i32_lt, i32_le, i32_eq, Int32.reduceToInt, nI_toInt] at i69
            refine x_bipush (v := 10) hκ dX8_number_72 (by decide) ?_
            refine x_iload_n hκ dX8_number_74 rfl ?_
            refine x_imulN hκ (by (try simp (disch := omega) only [tS_1, tS_2, tA_1, tA_2, tF_1, tF_2, xl_0, xl_1, xl_2, Nat.reduceEqDiff, ↓reduceIte, nI_add, nI_1, nm_2, nm_3, nm_4, nm_6, nm_7, nm_8, nm_12, nm_16, nm_24, nm_40, nm_180, nm_300, nm_10210, na_0, na_2, na_3, na_4, na_5, na_6, na_7, na_8, nm_p, nm_m, nI_clamp, hT, hsub]); exact rfl) dX8_number_75 ?_
            refine x_aload_n hκ dX8_number_76 rfl ?_
            refine t_getA hκ fl8_0 (by decide) (by decide) rfl dX8_number_77 ?_
            refine x_aload_n hκ dX8_number_80 rfl ?_
            refine t_get hκ fl8_9 (by decide) (by decide) rfl (by (try simp (disch := omega) only [tS_1, tS_2, tA_1, tA_2, tF_1, tF_2, xl_0, xl_1, xl_2, Nat.reduceEqDiff, ↓reduceIte, nI_add, nI_1, nm_2, nm_3, nm_4, nm_6, nm_7, nm_8, nm_12, nm_16, nm_24, nm_40, nm_180, nm_300, nm_10210, na_0, na_2, na_3, na_4, na_5, na_6, na_7, na_8, nm_p, nm_m, nI_clamp, hT, hsub]); exact rfl) dX8_number_81 ?_
            refine t_iald (n := 90) hκ hθ (by decide) rfl rfl (by first | ((with_reducible refine vp_in_nI ?_ ?_) <;> omega) | exact i32_in (by omega) (by omega) | exact i32_in' (by simp only [Int32.toInt_add, Int32.toInt_mul, Int32.toInt_sub, Int32.reduceToInt, Int.bmod_add_bmod, Int.bmod_sub_bmod, Int.add_bmod_bmod, Int.sub_bmod_bmod, Int.bmod_mul_bmod, Int.mul_bmod_bmod]; exact i32_bm (by omega) (by omega)) (by omega) (by omega) | exact i32_in (by decide) (by decide)) (by (try simp (disch := omega) only [tS_1, tS_2, tA_1, tA_2, tF_1, tF_2, xl_0, xl_1, xl_2, Nat.reduceEqDiff, ↓reduceIte, nI_add, nI_1, nm_2, nm_3, nm_4, nm_6, nm_7, nm_8, nm_12, nm_16, nm_24, nm_40, nm_180, nm_300, nm_10210, na_0, na_2, na_3, na_4, na_5, na_6, na_7, na_8, nm_p, nm_m, nI_clamp, hT, hsub]); exact rfl) dX8_number_84 ?_
            refine x_iaddN hκ (by (try simp (disch := omega) only [tS_1, tS_2, tA_1, tA_2, tF_1, tF_2, xl_0, xl_1, xl_2, Nat.reduceEqDiff, ↓reduceIte, nI_add, nI_1, nm_2, nm_3, nm_4, nm_6, nm_7, nm_8, nm_12, nm_16, nm_24, nm_40, nm_180, nm_300, nm_10210, na_0, na_2, na_3, na_4, na_5, na_6, na_7, na_8, nm_p, nm_m, nI_clamp, hT, hsub]); exact rfl) dX8_number_85 ?_
            refine x_bipush (v := 48) hκ dX8_number_86 (by decide) ?_
            refine x_isubN hκ (by (try simp (disch := omega) only [tS_1, tS_2, tA_1, tA_2, tF_1, tF_2, xl_0, xl_1, xl_2, Nat.reduceEqDiff, ↓reduceIte, nI_add, nI_1, nm_2, nm_3, nm_4, nm_6, nm_7, nm_8, nm_12, nm_16, nm_24, nm_40, nm_180, nm_300, nm_10210, na_0, na_2, na_3, na_4, na_5, na_6, na_7, na_8, nm_p, nm_m, nI_clamp, hT, hsub]); exact rfl) dX8_number_88 ?_
            refine x_goto (tgt := 93) hκ dX8_number_89 (by decide) ?_
            refine x_istore_n hκ dX8_number_93 (by rw [hL]; decide) rfl ?_
            refine x_aload_n hκ dX8_number_94 rfl ?_
            refine x_dup hκ dX8_number_95 rfl ?_
            refine t_get hκ fl8_9 (by decide) (by decide) rfl (by (try simp (disch := omega) only [tS_1, tS_2, tA_1, tA_2, tF_1, tF_2, xl_0, xl_1, xl_2, Nat.reduceEqDiff, ↓reduceIte, nI_add, nI_1, nm_2, nm_3, nm_4, nm_6, nm_7, nm_8, nm_12, nm_16, nm_24, nm_40, nm_180, nm_300, nm_10210, na_0, na_2, na_3, na_4, na_5, na_6, na_7, na_8, nm_p, nm_m, nI_clamp, hT, hsub]); exact rfl) dX8_number_96 ?_
            refine x_iconst (v := 1) hκ dX8_number_99 (by decide) ?_
            refine x_iaddN hκ (by (try simp (disch := omega) only [tS_1, tS_2, tA_1, tA_2, tF_1, tF_2, xl_0, xl_1, xl_2, Nat.reduceEqDiff, ↓reduceIte, nI_add, nI_1, nm_2, nm_3, nm_4, nm_6, nm_7, nm_8, nm_12, nm_16, nm_24, nm_40, nm_180, nm_300, nm_10210, na_0, na_2, na_3, na_4, na_5, na_6, na_7, na_8, nm_p, nm_m, nI_clamp, hT, hsub]); exact rfl) dX8_number_100 ?_
            refine t_put hκ fl8_9 (by decide) (by decide) rfl rfl rfl dX8_number_101 ?_
            refine x_goto (tgt := 31) hκ dX8_number_104 (by decide) ?_
            rw [tS_tS]
            exact ih (k + 1) _ (by omega) (by omega) (by rw [← he, nE_go ⟨by omega, i58⟩]; rfl) (fun _ => by rw [nV, hv (by omega)])
  have notd : ¬ (48 ≤ (cur (σ.2 0) N a1).toInt ∧ (cur (σ.2 0) N a1).toInt ≤ 57) ↔ ¬ dgt (σ.2 0) N a1 := by
    unfold cur dgt
    by_cases h : a1 < N
    · rw [if_pos h]
      exact ⟨fun z y => z y.2, fun z y => z ⟨h, y⟩⟩
    · rw [if_neg h]
      exact ⟨fun _ y => h y.1, fun _ y => absurd y.1 (by decide)⟩
  refine x_aload_n hκ dX8_number_0 rfl ?_
  refine t_calli hκ (mX8_next hθ h9 hT hN (by omega)) (by omega) (by decide) wX8_138 aX8_next rfl (Nat.le_of_ble_eq_true rfl) dX8_number_1 (fun r1 σ1 h1 => ?_)
  rw [hs] at h1
  obtain ⟨rfl, rfl⟩ := h1
  refine x_bipush (v := 48) hκ dX8_number_4 (by decide) ?_
  refine x_bipush (v := 57) hκ dX8_number_6 (by decide) ?_
  refine x_callSi hκ mX8_in (by omega) (by decide) wX8_122 aX8_in rfl (Nat.le_of_ble_eq_true rfl) dX8_number_8 (fun r8 h8 => ?_)
  refine x_if_ne (tgt := 24) hκ dX8_number_11 (by decide) (fun c11 => ?_) (fun c11 => ?_)
  · -- X8_number 11T
    have i11 := h8.t c11
    try simp only [Int32.reduceToInt] at i11
    refine x_aload_n hκ dX8_number_24 rfl ?_
    refine t_get hκ fl8_9 (by decide) (by decide) rfl (by (try simp (disch := omega) only [tS_1, tS_2, tA_1, tA_2, tF_1, tF_2, xl_0, xl_1, xl_2, Nat.reduceEqDiff, ↓reduceIte, nI_add, nI_1, nm_2, nm_3, nm_4, nm_6, nm_7, nm_8, nm_12, nm_16, nm_24, nm_40, nm_180, nm_300, nm_10210, na_0, na_2, na_3, na_4, na_5, na_6, na_7, na_8, nm_p, nm_m, nI_clamp, hT]); exact rfl) dX8_number_25 ?_
    refine x_istore_n hκ dX8_number_28 (by rw [hL]; decide) rfl ?_
    refine x_iconst (v := 0) hκ dX8_number_29 (by decide) ?_
    refine x_istore_n hκ dX8_number_30 (by rw [hL]; decide) rfl ?_
    have hd0 : dgt (σ.2 0) N a1 := Decidable.of_not_not (fun z => notd.mpr z i11)
    exact loop hd0 (N + 1) 0 0 (by have := hd0.1; omega) (by omega) rfl (fun _ => rfl)
  · -- X8_number 11F
    have i11 := h8.f c11
    try simp only [Int32.reduceToInt] at i11
    refine x_aload_n hκ dX8_number_14 rfl ?_
    refine x_aload_n hκ dX8_number_15 rfl ?_
    refine t_get hκ fl8_9 (by decide) (by decide) rfl (by (try simp (disch := omega) only [tS_1, tS_2, tA_1, tA_2, tF_1, tF_2, xl_0, xl_1, xl_2, Nat.reduceEqDiff, ↓reduceIte, nI_add, nI_1, nm_2, nm_3, nm_4, nm_6, nm_7, nm_8, nm_12, nm_16, nm_24, nm_40, nm_180, nm_300, nm_10210, na_0, na_2, na_3, na_4, na_5, na_6, na_7, na_8, nm_p, nm_m, nI_clamp, hT]); exact rfl) dX8_number_16 ?_
    refine t_callv hκ (mX8_fails hθ) (by omega) (by decide) wX8_142 aX8_fails rfl (Nat.le_of_ble_eq_true rfl) dX8_number_19 (fun σ19 h19 => ?_)
    subst h19
    refine x_iconst (v := 0) hκ dX8_number_22 (by decide) ?_
    refine t_reti hκ hr rfl dX8_number_23 ?_
    have hnd := notd.mp i11
    refine ⟨fun p hp => ?_, fun e v2 hp => ?_⟩
    · rw [nm, hs, if_neg hnd] at hp
      cases hp
      exact ⟨a1, by omega, rfl⟩
    · rw [nm, hs, if_neg hnd] at hp
      cases hp
