theorem vX12_16_X6 : IW RX12 16 RX6 ⟨"SortedPost$Truths", "isTrue", "(LSortedPost$Atom;)Z"⟩ yX6_isTrue cX6_isTrue 2 (some .boolean) := ⟨lw_F q824 q845 q847 q80 q849, q826, q825, rfl, q848, q846, q844⟩
theorem fX6_isTrue : (⟨"SortedPost$Truths", "isTrue", "(LSortedPost$Atom;)Z"⟩ : MethodName).cls ≠ "java/lang/invoke/MethodHandle" ∧ (⟨"SortedPost$Truths", "isTrue", "(LSortedPost$Atom;)Z"⟩ : MethodName).cls ≠ "java/lang/invoke/VarHandle" ∧ (parseMethodDescriptor (⟨"SortedPost$Truths", "isTrue", "(LSortedPost$Atom;)Z"⟩ : MethodName).desc).map (fun d => d.parameters.length) = some 1 := by decide +kernel
/-! the component: cases -/
theorem mX6_isTrue {E : gE} {s : CSt} {t a p d : Nat} {c : Int32} (hk : s.1 t = 8) (hb : s.2.1 t 0 = .int c) (ha : s.1 a = 12) (hp : s.2.1 a 2 = .int (nI p)) : CMg E s yX6_isTrue cX6_isTrue 2 (some .boolean) d 0 0 [.ref t, .ref a] (qI (fun r s' => Tz (bt1 c p) r ∧ s' = s)) := by
  refine CMg.of (by decide) (Nat.le_of_ble_eq_true rfl) ?_
  rintro κ rfl hL hκ hr
  refine x_aload_n hκ dX6_isTrue_0 rfl ?_
  refine c_get hκ kX6 (by exact hk) 0 (by decide) (Or.inl q612) rfl (by exact hb) dX6_isTrue_1 ?_
  refine x_aload_n hκ dX6_isTrue_4 rfl ?_
  refine c_get hκ kX12 (by exact ha) 2 (by decide) (Or.inr ⟨_, q263⟩) rfl (by exact hp) dX6_isTrue_5 ?_
  refine x_ishr hκ dX6_isTrue_8 ?_
  refine x_iconst (v := 1) hκ dX6_isTrue_9 (by decide) ?_
  refine x_iand hκ dX6_isTrue_10 ?_
  refine x_iconst (v := 1) hκ dX6_isTrue_11 (by decide) ?_
  refine x_icmp_ne (tgt := 19) hκ dX6_isTrue_12 (by decide) (fun c12 => ?_) (fun c12 => ?_)
  · -- X6_isTrue 12T
    have i12 := c12
    simp (disch := omega) only [i32_lt, i32_le, i32_eq, Int32.reduceToInt, nI_toInt] at i12
    refine x_iconst (v := 0) hκ dX6_isTrue_19 (by decide) ?_
    refine c_retz hκ hr dX6_isTrue_20 (by first | exact Or.inl rfl | exact Or.inr rfl | assumption) ?_
    exact ⟨Tz0 c12, rfl⟩
  · -- X6_isTrue 12F
    have i12 := c12
    simp (disch := omega) only [i32_lt, i32_le, i32_eq, Int32.reduceToInt, nI_toInt] at i12
    refine x_iconst (v := 1) hκ dX6_isTrue_15 (by decide) ?_
    refine x_goto (tgt := 20) hκ dX6_isTrue_16 (by decide) ?_
    refine c_retz hκ hr dX6_isTrue_20 (by first | exact Or.inl rfl | exact Or.inr rfl | assumption) ?_
    exact ⟨Tz1 c12, rfl⟩
theorem mX12_holdsC {E : gE} {s : CSt} {t a p d : Nat} {c : Int32} (hd : 0 < d) (hk : s.1 t = 8) (hb : s.2.1 t 0 = .int c) (ha : s.1 a = 12) (hp : s.2.1 a 2 = .int (nI p)) : HM E s yX12_holds cX12_holds a t d (bt1 c p) := by
  refine CMg.of (by decide) (Nat.le_of_ble_eq_true rfl) ?_
  rintro κ rfl hL hκ hr
  refine x_aload_n hκ dX12_holds_0 rfl ?_
  refine x_aload_n hκ dX12_holds_1 rfl ?_
  refine c_callF  hκ (mX6_isTrue (d := 0) hk hb ha hp) (by omega) (by decide) vX12_16_X6 fX6_isTrue kX6 (by exact hk) rfl (Nat.le_of_ble_eq_true rfl) dX12_holds_2 (jIr (fun r2 h2 => ?_))
  refine c_retz hκ hr dX12_holds_7 h2.b ?_
  exact ⟨h2, rfl⟩
theorem gth_nd : ∀ (l a : List Int32), a.Nodup → (gth l a).Nodup
  | [], _, h => h
  | c :: l, a, h => by
    rw [gth]
    refine gth_nd l _ ?_
    split
    · rename_i hc
      exact List.nodup_append.mpr ⟨h, List.nodup_cons.mpr ⟨List.not_mem_nil, List.nodup_nil⟩, fun x hx y hy => by rw [List.mem_singleton] at hy; rintro rfl; rw [hy] at hx; exact hc.2 hx⟩
    · exact h
theorem pos_at {a : List Int32} {x : Int32} {p : Nat} (hn : a.Nodup) (h : a[p]? = some x) : pos a x = p := by
  have hp := (List.getElem?_eq_some_iff.mp h).1
  refine rf_at (fun j hj z => ?_) ?_ _ hp
  · have e : a[j]? = a[p]? := by
      rw [h, ← z, List.getElem?_eq_getElem (by omega), List.getD_eq_getElem?_getD, List.getElem?_eq_getElem (by omega)]
      rfl
    have := (List.getElem?_inj (by omega) hn).mp e
    omega
  · rw [List.getD_eq_getElem?_getD, h]
    rfl
/-- a test of the box's rules, asked with the case c at L 47 -/
theorem RlA.case {E : gE} {Z : Nat → Prop} {s : CSt} {R : Rl} {t f te : Nat} {c : Int32} {l : List Int32} (hk : s.1 t = 8) (hb : s.2.1 t 0 = .int c) (hf : TeA Z s (gth (allC R) []) f te l) : HoldsAt E s te t (1 + f) (hv (tc (gth (allC R) []) c) l) := by
  refine TeA.at (fun d a p x hd hp ha => ?_) f te l hf
  have h1 := mX12_holdsC (E := E) (d := d) (p := p) (c := c) (by omega) hk hb ha.2.1 (by obtain ⟨-, -, k, n, -, -, -, -, -, g⟩ := ha; exact g)
  show HM E s yX12_holds cX12_holds a t d (tc _ c x)
  unfold tc
  rw [pos_at (gth_nd _ _ List.nodup_nil) hp]
  exact h1
