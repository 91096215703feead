
/-! the component: tests -/
/-- the words of a call of holds, for each class of tests -/
def IT (own : String) (idx : Nat) : Prop := IW own idx RX11 ⟨"SortedPost$Test", "holds", "(LSortedPost$Truths;)Z"⟩ yX11_holds cX11_holds 2 (some .boolean) ∧ IW own idx RX12 ⟨"SortedPost$Test", "holds", "(LSortedPost$Truths;)Z"⟩ yX12_holds cX12_holds 2 (some .boolean) ∧ IW own idx RX10 ⟨"SortedPost$Test", "holds", "(LSortedPost$Truths;)Z"⟩ yX10_holds cX10_holds 2 (some .boolean) ∧ IW own idx RX14 ⟨"SortedPost$Test", "holds", "(LSortedPost$Truths;)Z"⟩ yX14_holds cX14_holds 2 (some .boolean) ∧ IW own idx RX15 ⟨"SortedPost$Test", "holds", "(LSortedPost$Truths;)Z"⟩ yX15_holds cX15_holds 2 (some .boolean)
theorem vX0_243_X11 : IW RX0 243 RX11 ⟨"SortedPost$Test", "holds", "(LSortedPost$Truths;)Z"⟩ yX11_holds cX11_holds 2 (some .boolean) := ⟨lw_F q808 q812 q814 q85 q816, q810, q809, rfl, q815, q813, q811⟩
theorem vX0_243_X12 : IW RX0 243 RX12 ⟨"SortedPost$Test", "holds", "(LSortedPost$Truths;)Z"⟩ yX12_holds cX12_holds 2 (some .boolean) := ⟨lw_F q808 q818 q820 q86 q822, q810, q809, rfl, q821, q819, q817⟩
theorem vX0_243_X10 : IW RX0 243 RX10 ⟨"SortedPost$Test", "holds", "(LSortedPost$Truths;)Z"⟩ yX10_holds cX10_holds 2 (some .boolean) := ⟨lw_F q808 q867 q869 q84 q871, q810, q809, rfl, q870, q868, q866⟩
theorem vX0_243_X14 : IW RX0 243 RX14 ⟨"SortedPost$Test", "holds", "(LSortedPost$Truths;)Z"⟩ yX14_holds cX14_holds 2 (some .boolean) := ⟨lw_F q808 q851 q853 q94 q855, q810, q809, rfl, q854, q852, q850⟩
theorem vX0_243_X15 : IW RX0 243 RX15 ⟨"SortedPost$Test", "holds", "(LSortedPost$Truths;)Z"⟩ yX15_holds cX15_holds 2 (some .boolean) := ⟨lw_F q808 q859 q861 q95 q863, q810, q809, rfl, q862, q860, q858⟩
theorem itX0 : IT RX0 243 := ⟨vX0_243_X11, vX0_243_X12, vX0_243_X10, vX0_243_X14, vX0_243_X15⟩
theorem vX10_13_X11 : IW RX10 13 RX11 ⟨"SortedPost$Test", "holds", "(LSortedPost$Truths;)Z"⟩ yX11_holds cX11_holds 2 (some .boolean) := ⟨lw_F q873 q812 q814 q85 q816, q810, q809, rfl, q815, q813, q811⟩
theorem vX10_13_X12 : IW RX10 13 RX12 ⟨"SortedPost$Test", "holds", "(LSortedPost$Truths;)Z"⟩ yX12_holds cX12_holds 2 (some .boolean) := ⟨lw_F q873 q818 q820 q86 q822, q810, q809, rfl, q821, q819, q817⟩
theorem vX10_13_X10 : IW RX10 13 RX10 ⟨"SortedPost$Test", "holds", "(LSortedPost$Truths;)Z"⟩ yX10_holds cX10_holds 2 (some .boolean) := ⟨lw_F q873 q867 q869 q84 q871, q810, q809, rfl, q870, q868, q866⟩
theorem vX10_13_X14 : IW RX10 13 RX14 ⟨"SortedPost$Test", "holds", "(LSortedPost$Truths;)Z"⟩ yX14_holds cX14_holds 2 (some .boolean) := ⟨lw_F q873 q851 q853 q94 q855, q810, q809, rfl, q854, q852, q850⟩
theorem vX10_13_X15 : IW RX10 13 RX15 ⟨"SortedPost$Test", "holds", "(LSortedPost$Truths;)Z"⟩ yX15_holds cX15_holds 2 (some .boolean) := ⟨lw_F q873 q859 q861 q95 q863, q810, q809, rfl, q862, q860, q858⟩
theorem itX10 : IT RX10 13 := ⟨vX10_13_X11, vX10_13_X12, vX10_13_X10, vX10_13_X14, vX10_13_X15⟩
theorem vX14_13_X11 : IW RX14 13 RX11 ⟨"SortedPost$Test", "holds", "(LSortedPost$Truths;)Z"⟩ yX11_holds cX11_holds 2 (some .boolean) := ⟨lw_F q857 q812 q814 q85 q816, q810, q809, rfl, q815, q813, q811⟩
theorem vX14_13_X12 : IW RX14 13 RX12 ⟨"SortedPost$Test", "holds", "(LSortedPost$Truths;)Z"⟩ yX12_holds cX12_holds 2 (some .boolean) := ⟨lw_F q857 q818 q820 q86 q822, q810, q809, rfl, q821, q819, q817⟩
theorem vX14_13_X10 : IW RX14 13 RX10 ⟨"SortedPost$Test", "holds", "(LSortedPost$Truths;)Z"⟩ yX10_holds cX10_holds 2 (some .boolean) := ⟨lw_F q857 q867 q869 q84 q871, q810, q809, rfl, q870, q868, q866⟩
theorem vX14_13_X14 : IW RX14 13 RX14 ⟨"SortedPost$Test", "holds", "(LSortedPost$Truths;)Z"⟩ yX14_holds cX14_holds 2 (some .boolean) := ⟨lw_F q857 q851 q853 q94 q855, q810, q809, rfl, q854, q852, q850⟩
theorem vX14_13_X15 : IW RX14 13 RX15 ⟨"SortedPost$Test", "holds", "(LSortedPost$Truths;)Z"⟩ yX15_holds cX15_holds 2 (some .boolean) := ⟨lw_F q857 q859 q861 q95 q863, q810, q809, rfl, q862, q860, q858⟩
theorem itX14 : IT RX14 13 := ⟨vX14_13_X11, vX14_13_X12, vX14_13_X10, vX14_13_X14, vX14_13_X15⟩
theorem vX15_13_X11 : IW RX15 13 RX11 ⟨"SortedPost$Test", "holds", "(LSortedPost$Truths;)Z"⟩ yX11_holds cX11_holds 2 (some .boolean) := ⟨lw_F q865 q812 q814 q85 q816, q810, q809, rfl, q815, q813, q811⟩
theorem vX15_13_X12 : IW RX15 13 RX12 ⟨"SortedPost$Test", "holds", "(LSortedPost$Truths;)Z"⟩ yX12_holds cX12_holds 2 (some .boolean) := ⟨lw_F q865 q818 q820 q86 q822, q810, q809, rfl, q821, q819, q817⟩
theorem vX15_13_X10 : IW RX15 13 RX10 ⟨"SortedPost$Test", "holds", "(LSortedPost$Truths;)Z"⟩ yX10_holds cX10_holds 2 (some .boolean) := ⟨lw_F q865 q867 q869 q84 q871, q810, q809, rfl, q870, q868, q866⟩
theorem vX15_13_X14 : IW RX15 13 RX14 ⟨"SortedPost$Test", "holds", "(LSortedPost$Truths;)Z"⟩ yX14_holds cX14_holds 2 (some .boolean) := ⟨lw_F q865 q851 q853 q94 q855, q810, q809, rfl, q854, q852, q850⟩
theorem vX15_13_X15 : IW RX15 13 RX15 ⟨"SortedPost$Test", "holds", "(LSortedPost$Truths;)Z"⟩ yX15_holds cX15_holds 2 (some .boolean) := ⟨lw_F q865 q859 q861 q95 q863, q810, q809, rfl, q862, q860, q858⟩
theorem itX15 : IT RX15 13 := ⟨vX15_13_X11, vX15_13_X12, vX15_13_X10, vX15_13_X14, vX15_13_X15⟩
abbrev HM (E : gE) (s : CSt) (y : MethodName) (cc : ByteArray) (te t d : Nat) (P : Prop) : Prop := CMg E s y cc 2 (some .boolean) d 0 0 [.ref te, .ref t] (qI (fun r s' => Tz P r ∧ s' = s))
/-- the test te, asked with the truths t, tells P -/
def HoldsAt (E : gE) (s : CSt) (te t d : Nat) (P : Prop) : Prop := (s.1 te = 18 ∧ HM E s yX11_holds cX11_holds te t d P) ∨ (s.1 te = 12 ∧ HM E s yX12_holds cX12_holds te t d P) ∨ (s.1 te = 11 ∧ HM E s yX10_holds cX10_holds te t d P) ∨ (s.1 te = 13 ∧ HM E s yX14_holds cX14_holds te t d P) ∨ (s.1 te = 14 ∧ HM E s yX15_holds cX15_holds te t d P)
theorem fTest : (⟨"SortedPost$Test", "holds", "(LSortedPost$Truths;)Z"⟩ : MethodName).cls ≠ "java/lang/invoke/MethodHandle" ∧ (⟨"SortedPost$Test", "holds", "(LSortedPost$Truths;)Z"⟩ : MethodName).cls ≠ "java/lang/invoke/VarHandle" ∧ (parseMethodDescriptor (⟨"SortedPost$Test", "holds", "(LSortedPost$Truths;)Z"⟩ : MethodName).desc).map (fun d => d.parameters.length) = some 1 := by decide +kernel
theorem c_test {κ : Kx} {s : CSt} {u w pc d d' : Nat} {lv : List (Option Value)} {st : List Value} {cc : ByteArray} {own : String} {idx count te t : Nat} {P : Prop} (hκ : Ok κ cc own d) (hI : IT own idx) (h : HoldsAt (kE κ) s te t d' P) (hd : d' < d) (hrest : (st.map fun v => v.category).sum ≤ 8) (dg : decode cc pc = .ok (.invokeinterface idx count, 5)) (kk : ∀ r : Int32, Tz P r → X κ (sG (kE κ) s) u w (pc + 5) lv (.int r :: st)) : X κ (sG (kE κ) s) u w pc lv (.ref t :: .ref te :: st) := by
  rcases h with ⟨h1, h2⟩ | ⟨h1, h2⟩ | ⟨h1, h2⟩ | ⟨h1, h2⟩ | ⟨h1, h2⟩
  · exact c_callF (mc := 0) (ms := 0) hκ h2 hd (by decide) hI.1 fTest kX11 h1 rfl hrest dg (jIr kk)
  · exact c_callF (mc := 0) (ms := 0) hκ h2 hd (by decide) hI.2.1 fTest kX12 h1 rfl hrest dg (jIr kk)
  · exact c_callF (mc := 0) (ms := 0) hκ h2 hd (by decide) hI.2.2.1 fTest kX10 h1 rfl hrest dg (jIr kk)
  · exact c_callF (mc := 0) (ms := 0) hκ h2 hd (by decide) hI.2.2.2.1 fTest kX14 h1 rfl hrest dg (jIr kk)
  · exact c_callF (mc := 0) (ms := 0) hκ h2 hd (by decide) hI.2.2.2.2 fTest kX15 h1 rfl hrest dg (jIr kk)
theorem rpn_app {τ : Int32 → Prop} : ∀ (l1 l2 : List Int32) (st : List Prop), rpn τ (l1 ++ l2) st = rpn τ l2 (rpn τ l1 st)
  | [], _, _ => rfl
  | c :: l1, l2, st => by
    show rpn τ (l1 ++ l2) _ = rpn τ l2 (rpn τ l1 _)
    exact rpn_app l1 l2 _
/-- one truth is told -/
def One (τ : Int32 → Prop) (l : List Int32) : Prop := ∀ st : List Prop, rpn τ l st = hv τ l :: st
theorem one_not {τ : Int32 → Prop} {l : List Int32} (h : One τ l) : One τ (l ++ [10000000]) ∧ hv τ (l ++ [10000000]) = ¬ hv τ l := by
  have e : ∀ st, rpn τ (l ++ [10000000]) st = (¬ hv τ l) :: st := fun st => by
    rw [rpn_app, h st]
    rfl
  have e2 : hv τ (l ++ [10000000]) = ¬ hv τ l := by
    show (rpn τ (l ++ [10000000]) []).headD False = _
    rw [e]
    rfl
  exact ⟨fun st => by rw [e, e2], e2⟩
theorem one_both {τ : Int32 → Prop} {l m : List Int32} (h : One τ l) (h2 : One τ m) : One τ (l ++ (m ++ [11000000])) ∧ hv τ (l ++ (m ++ [11000000])) = (hv τ l ∧ hv τ m) := by
  have e : ∀ st, rpn τ (l ++ (m ++ [11000000])) st = (hv τ l ∧ hv τ m) :: st := fun st => by
    rw [rpn_app, h st, rpn_app, h2]
    rfl
  have e2 : hv τ (l ++ (m ++ [11000000])) = (hv τ l ∧ hv τ m) := by
    show (rpn τ (l ++ (m ++ [11000000])) []).headD False = _
    rw [e]
    rfl
  exact ⟨fun st => by rw [e, e2], e2⟩
theorem one_either {τ : Int32 → Prop} {l m : List Int32} (h : One τ l) (h2 : One τ m) : One τ (l ++ (m ++ [12000000])) ∧ hv τ (l ++ (m ++ [12000000])) = (hv τ l ∨ hv τ m) := by
  have e : ∀ st, rpn τ (l ++ (m ++ [12000000])) st = (hv τ l ∨ hv τ m) :: st := fun st => by
    rw [rpn_app, h st, rpn_app, h2]
    rfl
  have e2 : hv τ (l ++ (m ++ [12000000])) = (hv τ l ∨ hv τ m) := by
    show (rpn τ (l ++ (m ++ [12000000])) []).headD False = _
    rw [e]
    rfl
  exact ⟨fun st => by rw [e, e2], e2⟩
theorem one_at {τ : Int32 → Prop} {c : Int32} (h1 : ¬ c = 10000000) (h2 : ¬ c = 11000000) (h3 : ¬ c = 12000000) : One τ [c] ∧ hv τ [c] = (c = 9000000 ∨ τ c) := by
  have e : ∀ st, rpn τ [c] st = (c = 9000000 ∨ τ c) :: st := fun st => stp_at h1 h2 h3
  have e2 : hv τ [c] = (c = 9000000 ∨ τ c) := by
    show (rpn τ [c] []).headD False = _
    rw [e]
    rfl
  exact ⟨fun st => by rw [e, e2], e2⟩
theorem nI_big {k n : Nat} (hk : k < 9) (hn : n < 1000000) : ¬ nI (1000000 * k + n) = 10000000 ∧ ¬ nI (1000000 * k + n) = 11000000 ∧ ¬ nI (1000000 * k + n) = 12000000 ∧ ¬ nI (1000000 * k + n) = 9000000 := by
  have e := nI_toInt (n := 1000000 * k + n) (by omega)
  refine ⟨fun z => ?_, fun z => ?_, fun z => ?_, fun z => ?_⟩ <;> rw [z] at e <;> simp only [Int32.reduceToInt] at e <;> omega
theorem TeA.one {Z : Nat → Prop} {s : CSt} {al : List Int32} {τ : Int32 → Prop} : ∀ (f te : Nat) (l : List Int32), TeA Z s al f te l → One τ l
  | 0, _, _, h => h.elim
  | f + 1, te, l, h => by
    rcases h.2 with ⟨rfl, g2⟩ | ⟨p, c, rfl, g2, g3⟩ | ⟨l1, t1, rfl, g2, g3, g4⟩ | ⟨l1, l2, t1, t2, rfl, g2, g3, g4, g5, g6⟩ | ⟨l1, l2, t1, t2, rfl, g2, g3, g4, g5, g6⟩
    · exact (one_at (by decide) (by decide) (by decide)).1
    · obtain ⟨-, -, k, n, hk, hn, rfl, -⟩ := g3
      obtain ⟨e1, e2, e3, -⟩ := nI_big hk hn
      exact (one_at e1 e2 e3).1
    · exact (one_not (TeA.one f t1 l1 g4)).1
    · exact (one_both (TeA.one f t1 l1 g5) (TeA.one f t2 l2 g6)).1
    · exact (one_either (TeA.one f t1 l1 g5) (TeA.one f t2 l2 g6)).1
theorem mX11_holds {E : gE} {s : CSt} {te t d : Nat} {P : Prop} (h : P) : HM E s yX11_holds cX11_holds te t d P := by
  refine CMg.of (by decide) (Nat.le_of_ble_eq_true rfl) ?_
  rintro κ rfl hL hκ hr
  refine x_iconst (v := 1) hκ dX11_holds_0 (by decide) ?_
  refine c_retz hκ hr dX11_holds_1 (by first | exact Or.inl rfl | exact Or.inr rfl | assumption) ?_
  exact ⟨Tz1 h, rfl⟩
theorem mX10_holds {E : gE} {s : CSt} {te t t1 d : Nat} {P : Prop} (hk : s.1 te = 11) (h0 : s.2.1 te 0 = .ref t1) (h : HoldsAt E s t1 t d P) : HM E s yX10_holds cX10_holds te t (d + 1) (¬ P) := by
  refine CMg.of (by decide) (Nat.le_of_ble_eq_true rfl) ?_
  rintro κ rfl hL hκ hr
  refine x_aload_n hκ dX10_holds_0 rfl ?_
  refine c_get hκ kX10 (by exact hk) 0 (by decide) (Or.inl q227) rfl (by exact h0) dX10_holds_1 ?_
  refine x_aload_n hκ dX10_holds_4 rfl ?_
  refine c_test hκ itX10 h (by omega) (Nat.le_of_ble_eq_true rfl) dX10_holds_5 ?_
  intro r5 h5
  refine x_if_ne (tgt := 17) hκ dX10_holds_10 (by decide) (fun c10 => ?_) (fun c10 => ?_)
  · -- X10_holds 10T
    have i10 := h5.t c10
    try simp only [Int32.reduceToInt] at i10
    refine x_iconst (v := 0) hκ dX10_holds_17 (by decide) ?_
    refine c_retz hκ hr dX10_holds_18 (by first | exact Or.inl rfl | exact Or.inr rfl | assumption) ?_
    exact ⟨Tz0 (fun z => z i10), rfl⟩
  · -- X10_holds 10F
    have i10 := h5.f c10
    try simp only [Int32.reduceToInt] at i10
    refine x_iconst (v := 1) hκ dX10_holds_13 (by decide) ?_
    refine x_goto (tgt := 18) hκ dX10_holds_14 (by decide) ?_
    refine c_retz hκ hr dX10_holds_18 (by first | exact Or.inl rfl | exact Or.inr rfl | assumption) ?_
    exact ⟨Tz1 i10, rfl⟩
theorem mX14_holds {E : gE} {s : CSt} {te t t1 t2 d : Nat} {P Q : Prop} (hk : s.1 te = 13) (h0 : s.2.1 te 0 = .ref t1) (h1 : s.2.1 te 1 = .ref t2) (h : HoldsAt E s t1 t d P) (h2 : HoldsAt E s t2 t d Q) : HM E s yX14_holds cX14_holds te t (d + 1) (P ∧ Q) := by
  refine CMg.of (by decide) (Nat.le_of_ble_eq_true rfl) ?_
  rintro κ rfl hL hκ hr
  refine x_aload_n hκ dX14_holds_0 rfl ?_
  refine c_getS hκ kX14 (by exact hk) 0 (by decide) q390 q391 (by exact h0) dX14_holds_1 ?_
  refine x_aload_n hκ dX14_holds_4 rfl ?_
  refine c_test hκ itX14 h (by omega) (Nat.le_of_ble_eq_true rfl) dX14_holds_5 ?_
  intro r5 h5
  refine x_if_eq (tgt := 30) hκ dX14_holds_10 (by decide) (fun c10 => ?_) (fun c10 => ?_)
  · -- X14_holds 10T
    have i10 := h5.f c10
    try simp only [Int32.reduceToInt] at i10
    refine x_iconst (v := 0) hκ dX14_holds_30 (by decide) ?_
    refine c_retz hκ hr dX14_holds_31 (by first | exact Or.inl rfl | exact Or.inr rfl | assumption) ?_
    exact ⟨Tz0 (fun z => i10 z.1), rfl⟩
  · -- X14_holds 10F
    have i10 := h5.t c10
    try simp only [Int32.reduceToInt] at i10
    refine x_aload_n hκ dX14_holds_13 rfl ?_
    refine c_getS hκ kX14 (by exact hk) 1 (by decide) q397 q398 (by exact h1) dX14_holds_14 ?_
    refine x_aload_n hκ dX14_holds_17 rfl ?_
    refine c_test hκ itX14 h2 (by omega) (Nat.le_of_ble_eq_true rfl) dX14_holds_18 ?_
    intro r18 h18
    refine x_if_eq (tgt := 30) hκ dX14_holds_23 (by decide) (fun c23 => ?_) (fun c23 => ?_)
    · -- X14_holds 23T
      have i23 := h18.f c23
      try simp only [Int32.reduceToInt] at i23
      refine x_iconst (v := 0) hκ dX14_holds_30 (by decide) ?_
      refine c_retz hκ hr dX14_holds_31 (by first | exact Or.inl rfl | exact Or.inr rfl | assumption) ?_
      exact ⟨Tz0 (fun z => i23 z.2), rfl⟩
    · -- X14_holds 23F
      have i23 := h18.t c23
      try simp only [Int32.reduceToInt] at i23
      refine x_iconst (v := 1) hκ dX14_holds_26 (by decide) ?_
      refine x_goto (tgt := 31) hκ dX14_holds_27 (by decide) ?_
      refine c_retz hκ hr dX14_holds_31 (by first | exact Or.inl rfl | exact Or.inr rfl | assumption) ?_
      exact ⟨Tz1 ⟨i10, i23⟩, rfl⟩
theorem mX15_holds {E : gE} {s : CSt} {te t t1 t2 d : Nat} {P Q : Prop} (hk : s.1 te = 14) (h0 : s.2.1 te 0 = .ref t1) (h1 : s.2.1 te 1 = .ref t2) (h : HoldsAt E s t1 t d P) (h2 : HoldsAt E s t2 t d Q) : HM E s yX15_holds cX15_holds te t (d + 1) (P ∨ Q) := by
  refine CMg.of (by decide) (Nat.le_of_ble_eq_true rfl) ?_
  rintro κ rfl hL hκ hr
  refine x_aload_n hκ dX15_holds_0 rfl ?_
  refine c_getS hκ kX15 (by exact hk) 0 (by decide) q392 q393 (by exact h0) dX15_holds_1 ?_
  refine x_aload_n hκ dX15_holds_4 rfl ?_
  refine c_test hκ itX15 h (by omega) (Nat.le_of_ble_eq_true rfl) dX15_holds_5 ?_
  intro r5 h5
  refine x_if_ne (tgt := 26) hκ dX15_holds_10 (by decide) (fun c10 => ?_) (fun c10 => ?_)
  · -- X15_holds 10T
    have i10 := h5.t c10
    try simp only [Int32.reduceToInt] at i10
    refine x_iconst (v := 1) hκ dX15_holds_26 (by decide) ?_
    refine x_goto (tgt := 31) hκ dX15_holds_27 (by decide) ?_
    refine c_retz hκ hr dX15_holds_31 (by first | exact Or.inl rfl | exact Or.inr rfl | assumption) ?_
    exact ⟨Tz1 (Or.inl i10), rfl⟩
  · -- X15_holds 10F
    have i10 := h5.f c10
    try simp only [Int32.reduceToInt] at i10
    refine x_aload_n hκ dX15_holds_13 rfl ?_
    refine c_getS hκ kX15 (by exact hk) 1 (by decide) q395 q396 (by exact h1) dX15_holds_14 ?_
    refine x_aload_n hκ dX15_holds_17 rfl ?_
    refine c_test hκ itX15 h2 (by omega) (Nat.le_of_ble_eq_true rfl) dX15_holds_18 ?_
    intro r18 h18
    refine x_if_eq (tgt := 30) hκ dX15_holds_23 (by decide) (fun c23 => ?_) (fun c23 => ?_)
    · -- X15_holds 23T
      have i23 := h18.f c23
      try simp only [Int32.reduceToInt] at i23
      refine x_iconst (v := 0) hκ dX15_holds_30 (by decide) ?_
      refine c_retz hκ hr dX15_holds_31 (by first | exact Or.inl rfl | exact Or.inr rfl | assumption) ?_
      exact ⟨Tz0 (fun z => z.elim i10 i23), rfl⟩
    · -- X15_holds 23F
      have i23 := h18.t c23
      try simp only [Int32.reduceToInt] at i23
      refine x_iconst (v := 1) hκ dX15_holds_26 (by decide) ?_
      refine x_goto (tgt := 31) hκ dX15_holds_27 (by decide) ?_
      refine c_retz hκ hr dX15_holds_31 (by first | exact Or.inl rfl | exact Or.inr rfl | assumption) ?_
      exact ⟨Tz1 (Or.inr i23), rfl⟩
theorem HoldsAt.iff {E : gE} {s : CSt} {te t d : Nat} {P Q : Prop} (h : HoldsAt E s te t d P) (e : P = Q) : HoldsAt E s te t d Q := e ▸ h
theorem TeA.at {E : gE} {Z : Nat → Prop} {s : CSt} {al : List Int32} {τ : Int32 → Prop} {t D : Nat} (hat : ∀ d a p c, D ≤ d → al[p]? = some c → AtA Z s a p c → HM E s yX12_holds cX12_holds a t d (τ c)) : ∀ (f te : Nat) (l : List Int32), TeA Z s al f te l → HoldsAt E s te t (D + f) (hv τ l)
  | 0, _, _, h => h.elim
  | f + 1, te, l, h => by
    rcases h.2 with ⟨rfl, g2⟩ | ⟨p, c, rfl, g2, g3⟩ | ⟨l1, t1, rfl, g2, g3, g4⟩ | ⟨l1, l2, t1, t2, rfl, g2, g3, g4, g5, g6⟩ | ⟨l1, l2, t1, t2, rfl, g2, g3, g4, g5, g6⟩
    · refine Or.inl ⟨g2, mX11_holds ?_⟩
      rw [(one_at (by decide) (by decide) (by decide)).2]
      exact Or.inl rfl
    · refine Or.inr (Or.inl ⟨g3.2.1, ?_⟩)
      have h1 := hat (D + (f + 1)) te p c (by omega) g2 g3
      obtain ⟨-, -, k, n, hk, hn, rfl, -⟩ := g3
      obtain ⟨e1, e2, e3, e4⟩ := nI_big hk hn
      rw [(one_at e1 e2 e3).2, show (nI (1000000 * k + n) = 9000000 ∨ τ (nI (1000000 * k + n))) = τ (nI (1000000 * k + n)) from propext ⟨fun z => z.resolve_left e4, Or.inr⟩]
      exact h1
    · refine Or.inr (Or.inr (Or.inl ⟨g2, ?_⟩))
      rw [(one_not (TeA.one f t1 l1 g4)).2]
      exact mX10_holds g2 g3 (TeA.at hat f t1 l1 g4)
    · refine Or.inr (Or.inr (Or.inr (Or.inl ⟨g2, ?_⟩)))
      rw [(one_both (TeA.one f t1 l1 g5) (TeA.one f t2 l2 g6)).2]
      exact mX14_holds g2 g3 g4 (TeA.at hat f t1 l1 g5) (TeA.at hat f t2 l2 g6)
    · refine Or.inr (Or.inr (Or.inr (Or.inr ⟨g2, ?_⟩)))
      rw [(one_either (TeA.one f t1 l1 g5) (TeA.one f t2 l2 g6)).2]
      exact mX15_holds g2 g3 g4 (TeA.at hat f t1 l1 g5) (TeA.at hat f t2 l2 g6)
