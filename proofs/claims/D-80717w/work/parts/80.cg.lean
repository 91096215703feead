theorem wX0_321 : GoodIn lw_all (va_wsS RX0 321 yJ10_bitCount (ws_ yJ10_bitCount cJ10_bitCount 1 (some .int))) := lw_S q716 q717 q96 q718
theorem aJ10_bitCount : yJ10_bitCount.cls ≠ "java/lang/invoke/MethodHandle" ∧ yJ10_bitCount.cls ≠ "java/lang/invoke/VarHandle" ∧ (parseMethodDescriptor yJ10_bitCount.desc).map (fun d => d.parameters.length) = some 1 := by decide +kernel
/-! the component: what a letter may be -/
def ush (x k : Int32) : Int32 := (x.toUInt32 >>> (k.toUInt32 &&& Int32.toUInt32 31)).toInt32
def bc1 (x : Int32) : Int32 := x - (ush x 1 &&& 1431655765)
def bc2 (x : Int32) : Int32 := (x &&& 858993459) + (ush x 2 &&& 858993459)
def bc3 (x : Int32) : Int32 := (x + ush x 4) &&& 252645135
def bc4 (x : Int32) : Int32 := x + ush x 8
def bc5 (x : Int32) : Int32 := x + ush x 16
def bcF (x : Int32) : Int32 := bc5 (bc4 (bc3 (bc2 (bc1 x)))) &&& 63
theorem mJ10_bitCount {E : gE} {x : Int32} : SMi E yJ10_bitCount cJ10_bitCount 1 .int 0 [.int x] (fun r => r = bcF x) := by
  refine SMi.of (by decide) (Nat.le_of_ble_eq_true rfl) ?_
  rintro κ G rfl hL hκ hr
  refine x_iload_n hκ dJ10_bitCount_0 rfl ?_
  refine x_iload_n hκ dJ10_bitCount_1 rfl ?_
  refine x_iconst (v := 1) hκ dJ10_bitCount_2 (by decide) ?_
  refine x_iushr hκ dJ10_bitCount_3 ?_
  refine x_ldcw hκ q719 dJ10_bitCount_4 ?_
  refine x_iand hκ dJ10_bitCount_7 ?_
  refine x_isub hκ dJ10_bitCount_8 ?_
  refine x_istore_n hκ dJ10_bitCount_9 (by rw [hL]; decide) rfl ?_
  refine x_iload_n hκ dJ10_bitCount_10 rfl ?_
  refine x_ldcw hκ q720 dJ10_bitCount_11 ?_
  refine x_iand hκ dJ10_bitCount_14 ?_
  refine x_iload_n hκ dJ10_bitCount_15 rfl ?_
  refine x_iconst (v := 2) hκ dJ10_bitCount_16 (by decide) ?_
  refine x_iushr hκ dJ10_bitCount_17 ?_
  refine x_ldcw hκ q720 dJ10_bitCount_18 ?_
  refine x_iand hκ dJ10_bitCount_21 ?_
  refine x_iadd hκ dJ10_bitCount_22 ?_
  refine x_istore_n hκ dJ10_bitCount_23 (by rw [hL]; decide) rfl ?_
  refine x_iload_n hκ dJ10_bitCount_24 rfl ?_
  refine x_iload_n hκ dJ10_bitCount_25 rfl ?_
  refine x_iconst (v := 4) hκ dJ10_bitCount_26 (by decide) ?_
  refine x_iushr hκ dJ10_bitCount_27 ?_
  refine x_iadd hκ dJ10_bitCount_28 ?_
  refine x_ldcw hκ q721 dJ10_bitCount_29 ?_
  refine x_iand hκ dJ10_bitCount_32 ?_
  refine x_istore_n hκ dJ10_bitCount_33 (by rw [hL]; decide) rfl ?_
  refine x_iload_n hκ dJ10_bitCount_34 rfl ?_
  refine x_iload_n hκ dJ10_bitCount_35 rfl ?_
  refine x_bipush (v := 8) hκ dJ10_bitCount_36 (by decide) ?_
  refine x_iushr hκ dJ10_bitCount_38 ?_
  refine x_iadd hκ dJ10_bitCount_39 ?_
  refine x_istore_n hκ dJ10_bitCount_40 (by rw [hL]; decide) rfl ?_
  refine x_iload_n hκ dJ10_bitCount_41 rfl ?_
  refine x_iload_n hκ dJ10_bitCount_42 rfl ?_
  refine x_bipush (v := 16) hκ dJ10_bitCount_43 (by decide) ?_
  refine x_iushr hκ dJ10_bitCount_45 ?_
  refine x_iadd hκ dJ10_bitCount_46 ?_
  refine x_istore_n hκ dJ10_bitCount_47 (by rw [hL]; decide) rfl ?_
  refine x_iload_n hκ dJ10_bitCount_48 rfl ?_
  refine x_bipush (v := 63) hκ dJ10_bitCount_49 (by decide) ?_
  refine x_iand hκ dJ10_bitCount_51 ?_
  refine s_reti hκ hr dJ10_bitCount_52 ?_
  rfl
theorem bc_ok2 : ∀ a b : Fin 64, bcF (nI (64 * a.val + b.val)) = bsum (nI (64 * a.val + b.val)) 16 := by decide +kernel
theorem bc_ok {n : Nat} (h : n < 4096) : bcF (nI n) = bsum (nI n) 16 := by
  have e := bc_ok2 ⟨n / 64, by omega⟩ ⟨n % 64, by omega⟩
  simp only at e
  rw [show 64 * (n / 64) + n % 64 = n by omega] at e
  exact e
theorem mX0_isLetter {E : gE} {f t w s g i r d : Int32} : SMi E yX0_isLetter cX0_isLetter 9 .boolean 1 [.int f, .int t, .int w, .int s, .int g, .int i, .int r, .int d] (Tz (goodL f t w s g i r d)) := by
  refine SMi.of (by decide) (Nat.le_of_ble_eq_true rfl) ?_
  rintro κ G rfl hL hκ hr
  have fin : ∀ z : Int32, Tz ((0 ≤ f.toInt ∧ f.toInt ≤ 15) ∧ (0 ≤ t.toInt ∧ t.toInt ≤ 65535) ∧ (0 ≤ w.toInt ∧ w.toInt ≤ 4095) ∧ (bsum w 16).toInt < 5) z → X κ G 0 0 45 [some (.int f), some (.int t), some (.int w), some (.int s), some (.int g), some (.int i), some (.int r), some (.int d), none] [.int z] := by
    intro z hz
    refine x_istore hκ dX0_isLetter_45 (by rw [hL]; decide) rfl ?_
    refine x_iload hκ dX0_isLetter_47 rfl ?_
    refine x_if_eq (tgt := 112) hκ dX0_isLetter_49 (by decide) (fun c49 => ?_) (fun c49 => ?_)
    · -- X0_isLetter 49T
      have i49 := c49
      simp (disch := omega) only [i32_lt, i32_le, i32_eq, Int32.reduceToInt, nI_toInt] at i49
      refine x_iconst (v := 0) hκ dX0_isLetter_112 (by decide) ?_
      refine s_retz hκ hr dX0_isLetter_113 ?_ ?_
      · first | exact Or.inl rfl | exact Or.inr rfl | assumption
      exact Tz0 (fun q => hz.f c49 q.1)
    · -- X0_isLetter 49F
      have i49 := c49
      simp (disch := omega) only [i32_lt, i32_le, i32_eq, Int32.reduceToInt, nI_toInt] at i49
      refine x_iload_n hκ dX0_isLetter_52 rfl ?_
      refine x_iconst (v := 0) hκ dX0_isLetter_53 (by decide) ?_
      refine x_ldc hκ q239 dX0_isLetter_54 ?_
      refine x_callSi hκ mX0_isIn (by omega) (by decide) wX0_3 aX0_isIn rfl (Nat.le_of_ble_eq_true rfl) dX0_isLetter_56 (fun r56 h56 => ?_)
      refine x_if_eq (tgt := 112) hκ dX0_isLetter_59 (by decide) (fun c59 => ?_) (fun c59 => ?_)
      · -- X0_isLetter 59T
        have i59 := h56.f c59
        try simp only [Int32.reduceToInt] at i59
        refine x_iconst (v := 0) hκ dX0_isLetter_112 (by decide) ?_
        refine s_retz hκ hr dX0_isLetter_113 ?_ ?_
        · first | exact Or.inl rfl | exact Or.inr rfl | assumption
        exact Tz0 (fun q => i59 q.2.1)
      · -- X0_isLetter 59F
        have i59 := h56.t c59
        try simp only [Int32.reduceToInt] at i59
        refine x_iload hκ dX0_isLetter_62 rfl ?_
        refine x_iconst (v := 0) hκ dX0_isLetter_64 (by decide) ?_
        refine x_iconst (v := 3) hκ dX0_isLetter_65 (by decide) ?_
        refine x_callSi hκ mX0_isIn (by omega) (by decide) wX0_3 aX0_isIn rfl (Nat.le_of_ble_eq_true rfl) dX0_isLetter_66 (fun r66 h66 => ?_)
        refine x_if_eq (tgt := 112) hκ dX0_isLetter_69 (by decide) (fun c69 => ?_) (fun c69 => ?_)
        · -- X0_isLetter 69T
          have i69 := h66.f c69
          try simp only [Int32.reduceToInt] at i69
          refine x_iconst (v := 0) hκ dX0_isLetter_112 (by decide) ?_
          refine s_retz hκ hr dX0_isLetter_113 ?_ ?_
          · first | exact Or.inl rfl | exact Or.inr rfl | assumption
          exact Tz0 (fun q => i69 q.2.2.1)
        · -- X0_isLetter 69F
          have i69 := h66.t c69
          try simp only [Int32.reduceToInt] at i69
          refine x_iload hκ dX0_isLetter_72 rfl ?_
          refine x_iconst (v := 0) hκ dX0_isLetter_74 (by decide) ?_
          refine x_sipush (v := 9999) hκ dX0_isLetter_75 (by decide) ?_
          refine x_callSi hκ mX0_isIn (by omega) (by decide) wX0_3 aX0_isIn rfl (Nat.le_of_ble_eq_true rfl) dX0_isLetter_78 (fun r78 h78 => ?_)
          refine x_if_eq (tgt := 112) hκ dX0_isLetter_81 (by decide) (fun c81 => ?_) (fun c81 => ?_)
          · -- X0_isLetter 81T
            have i81 := h78.f c81
            try simp only [Int32.reduceToInt] at i81
            refine x_iconst (v := 0) hκ dX0_isLetter_112 (by decide) ?_
            refine s_retz hκ hr dX0_isLetter_113 ?_ ?_
            · first | exact Or.inl rfl | exact Or.inr rfl | assumption
            exact Tz0 (fun q => i81 q.2.2.2.1)
          · -- X0_isLetter 81F
            have i81 := h78.t c81
            try simp only [Int32.reduceToInt] at i81
            refine x_iload hκ dX0_isLetter_84 rfl ?_
            refine x_iconst (v := (-1)) hκ dX0_isLetter_86 (by decide) ?_
            refine x_sipush (v := 9999) hκ dX0_isLetter_87 (by decide) ?_
            refine x_callSi hκ mX0_isIn (by omega) (by decide) wX0_3 aX0_isIn rfl (Nat.le_of_ble_eq_true rfl) dX0_isLetter_90 (fun r90 h90 => ?_)
            refine x_if_eq (tgt := 112) hκ dX0_isLetter_93 (by decide) (fun c93 => ?_) (fun c93 => ?_)
            · -- X0_isLetter 93T
              have i93 := h90.f c93
              try simp only [Int32.reduceToInt] at i93
              refine x_iconst (v := 0) hκ dX0_isLetter_112 (by decide) ?_
              refine s_retz hκ hr dX0_isLetter_113 ?_ ?_
              · first | exact Or.inl rfl | exact Or.inr rfl | assumption
              exact Tz0 (fun q => i93 q.2.2.2.2.1)
            · -- X0_isLetter 93F
              have i93 := h90.t c93
              try simp only [Int32.reduceToInt] at i93
              refine x_iload hκ dX0_isLetter_96 rfl ?_
              refine x_iconst (v := 0) hκ dX0_isLetter_98 (by decide) ?_
              refine x_sipush (v := 9999) hκ dX0_isLetter_99 (by decide) ?_
              refine x_callSi hκ mX0_isIn (by omega) (by decide) wX0_3 aX0_isIn rfl (Nat.le_of_ble_eq_true rfl) dX0_isLetter_102 (fun r102 h102 => ?_)
              refine x_if_eq (tgt := 112) hκ dX0_isLetter_105 (by decide) (fun c105 => ?_) (fun c105 => ?_)
              · -- X0_isLetter 105T
                have i105 := h102.f c105
                try simp only [Int32.reduceToInt] at i105
                refine x_iconst (v := 0) hκ dX0_isLetter_112 (by decide) ?_
                refine s_retz hκ hr dX0_isLetter_113 ?_ ?_
                · first | exact Or.inl rfl | exact Or.inr rfl | assumption
                exact Tz0 (fun q => i105 q.2.2.2.2.2)
              · -- X0_isLetter 105F
                have i105 := h102.t c105
                try simp only [Int32.reduceToInt] at i105
                refine x_iconst (v := 1) hκ dX0_isLetter_108 (by decide) ?_
                refine x_goto (tgt := 113) hκ dX0_isLetter_109 (by decide) ?_
                refine s_retz hκ hr dX0_isLetter_113 ?_ ?_
                · first | exact Or.inl rfl | exact Or.inr rfl | assumption
                exact Tz1 ⟨hz.t c49, i59, i69, i81, i93, i105⟩
  refine x_iload_n hκ dX0_isLetter_0 rfl ?_
  refine x_iconst (v := 0) hκ dX0_isLetter_1 (by decide) ?_
  refine x_bipush (v := 15) hκ dX0_isLetter_2 (by decide) ?_
  refine x_callSi hκ mX0_isIn (by omega) (by decide) wX0_3 aX0_isIn rfl (Nat.le_of_ble_eq_true rfl) dX0_isLetter_4 (fun r4 h4 => ?_)
  refine x_if_eq (tgt := 44) hκ dX0_isLetter_7 (by decide) (fun c7 => ?_) (fun c7 => ?_)
  · -- X0_isLetter 7T
    have i7 := h4.f c7
    try simp only [Int32.reduceToInt] at i7
    refine x_iconst (v := 0) hκ dX0_isLetter_44 (by decide) ?_
    exact fin 0 (Tz0 (fun q => i7 q.1))
  · -- X0_isLetter 7F
    have i7 := h4.t c7
    try simp only [Int32.reduceToInt] at i7
    refine x_iload_n hκ dX0_isLetter_10 rfl ?_
    refine x_iconst (v := 0) hκ dX0_isLetter_11 (by decide) ?_
    refine x_ldcw hκ q715 dX0_isLetter_12 ?_
    refine x_callSi hκ mX0_isIn (by omega) (by decide) wX0_3 aX0_isIn rfl (Nat.le_of_ble_eq_true rfl) dX0_isLetter_15 (fun r15 h15 => ?_)
    refine x_if_eq (tgt := 44) hκ dX0_isLetter_18 (by decide) (fun c18 => ?_) (fun c18 => ?_)
    · -- X0_isLetter 18T
      have i18 := h15.f c18
      try simp only [Int32.reduceToInt] at i18
      refine x_iconst (v := 0) hκ dX0_isLetter_44 (by decide) ?_
      exact fin 0 (Tz0 (fun q => i18 q.2.1))
    · -- X0_isLetter 18F
      have i18 := h15.t c18
      try simp only [Int32.reduceToInt] at i18
      refine x_iload_n hκ dX0_isLetter_21 rfl ?_
      refine x_iconst (v := 0) hκ dX0_isLetter_22 (by decide) ?_
      refine x_sipush (v := 4095) hκ dX0_isLetter_23 (by decide) ?_
      refine x_callSi hκ mX0_isIn (by omega) (by decide) wX0_3 aX0_isIn rfl (Nat.le_of_ble_eq_true rfl) dX0_isLetter_26 (fun r26 h26 => ?_)
      refine x_if_eq (tgt := 44) hκ dX0_isLetter_29 (by decide) (fun c29 => ?_) (fun c29 => ?_)
      · -- X0_isLetter 29T
        have i29 := h26.f c29
        try simp only [Int32.reduceToInt] at i29
        refine x_iconst (v := 0) hκ dX0_isLetter_44 (by decide) ?_
        exact fin 0 (Tz0 (fun q => i29 q.2.2.1))
      · -- X0_isLetter 29F
        have i29 := h26.t c29
        try simp only [Int32.reduceToInt] at i29
        refine x_iload_n hκ dX0_isLetter_32 rfl ?_
        refine x_callSi hκ mJ10_bitCount (by omega) (by decide) wX0_321 aJ10_bitCount rfl (Nat.le_of_ble_eq_true rfl) dX0_isLetter_33 (fun r33 h33 => ?_)
        have hbs : bcF w = bsum w 16 := by
          obtain ⟨n, hn, rfl, -⟩ := i32_nat i29
          exact bc_ok (by omega)
        rw [hbs] at h33
        subst h33
        refine x_iconst (v := 4) hκ dX0_isLetter_36 (by decide) ?_
        refine x_icmp_gt (tgt := 44) hκ dX0_isLetter_37 (by decide) (fun c37 => ?_) (fun c37 => ?_)
        · -- X0_isLetter 37T
          have i37 := c37
          simp (disch := omega) only [i32_lt, i32_le, i32_eq, Int32.reduceToInt, nI_toInt] at i37
          refine x_iconst (v := 0) hκ dX0_isLetter_44 (by decide) ?_
          exact fin 0 (Tz0 (fun q => by have := q.2.2.2; omega))
        · -- X0_isLetter 37F
          have i37 := c37
          simp (disch := omega) only [i32_lt, i32_le, i32_eq, Int32.reduceToInt, nI_toInt] at i37
          refine x_iconst (v := 1) hκ dX0_isLetter_40 (by decide) ?_
          refine x_goto (tgt := 45) hκ dX0_isLetter_41 (by decide) ?_
          exact fin 1 (Tz1 ⟨i7, i18, i29, by omega⟩)
