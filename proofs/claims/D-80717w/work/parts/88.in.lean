
/-! the component: letters and copies are made -/
theorem mX17_init {E : gE} {s : CSt} {q a d : Nat} {m : Int32} (hk : s.1 q = 16) (hm : m = 0 ∨ m = 1) (hd : 0 < d) : CMg E s yX17_init cX17_init 3 none d 0 0 [.ref q, .ref a, .int m] (qV (fun s' => s' = oS (oS s q 0 (.ref a)) q 1 (.int m))) := by
  refine CMg.ofN (by decide) (Nat.le_of_ble_eq_true rfl) ?_
  rintro κ rfl hL hκ hr hnm
  refine x_aload_n hκ dX17_init_0 rfl ?_
  refine x_objInit hκ q892 q133 q134 (by omega) (Nat.le_of_ble_eq_true rfl) dX17_init_1 ?_
  refine x_aload_n hκ dX17_init_4 rfl ?_
  refine x_aload_n hκ dX17_init_5 rfl ?_
  refine c_putF hκ kX17 (by exact hk) 0 (by decide) q893 rfl rfl hnm rfl (by rfl) (by rfl) dX17_init_6 ?_
  refine x_aload_n hκ dX17_init_9 rfl ?_
  refine x_iload_n hκ dX17_init_10 rfl ?_
  refine c_putF hκ kX17 (by exact hk) 1 (by decide) q895 rfl rfl hnm rfl (zn_n hm) (zn_f hm) dX17_init_11 ?_
  refine c_retv hκ hr dX17_init_14 ?_
  rfl
theorem mX16_init {E : gE} {s : CSt} {q d : Nat} {v0 v1 v2 v3 v4 v5 v6 v7 v8 : Int32} (hk : s.1 q = 15) (hd : 0 < d) : CMg E s yX16_init cX16_init 10 none d 0 0 [.ref q, .int v0, .int v1, .int v2, .int v3, .int v4, .int v5, .int v6, .int v7, .int v8] (qV (fun s' => s'.1 = s.1 ∧ s'.2.2 = s.2.2 ∧ Kp (fun b => b = q) s s' ∧ s'.2.1 q 0 = .int v0 ∧ s'.2.1 q 1 = .int v1 ∧ s'.2.1 q 2 = .int v2 ∧ s'.2.1 q 3 = .int v3 ∧ s'.2.1 q 4 = .int v4 ∧ s'.2.1 q 5 = .int v5 ∧ s'.2.1 q 6 = .int v6 ∧ s'.2.1 q 7 = .int v7 ∧ s'.2.1 q 8 = .int v8)) := by
  have kp : ∀ (s1 : CSt) (k : Nat) (v : Value), Kp (fun b => b = q) s s1 → Kp (fun b => b = q) s (oS s1 q k v) := fun s1 k v h => h.trans (Kp.oS (P := fun b => b = q) rfl) (fun _ _ z => z)
  refine CMg.ofN (by decide) (Nat.le_of_ble_eq_true rfl) ?_
  rintro κ rfl hL hκ hr hnm
  refine x_aload_n hκ dX16_init_0 rfl ?_
  refine x_objInit hκ q743 q133 q134 (by omega) (Nat.le_of_ble_eq_true rfl) dX16_init_1 ?_
  refine x_aload_n hκ dX16_init_4 rfl ?_
  refine x_iload_n hκ dX16_init_5 rfl ?_
  refine c_putF hκ kX16 (by exact hk) 0 (by decide) q744 rfl rfl hnm rfl (by rfl) (by rfl) dX16_init_6 ?_
  refine x_aload_n hκ dX16_init_9 rfl ?_
  refine x_iload_n hκ dX16_init_10 rfl ?_
  refine c_putF hκ kX16 (by exact hk) 1 (by decide) q746 rfl rfl hnm rfl (by rfl) (by rfl) dX16_init_11 ?_
  refine x_aload_n hκ dX16_init_14 rfl ?_
  refine x_iload_n hκ dX16_init_15 rfl ?_
  refine c_putF hκ kX16 (by exact hk) 2 (by decide) q749 rfl rfl hnm rfl (by rfl) (by rfl) dX16_init_16 ?_
  refine x_aload_n hκ dX16_init_19 rfl ?_
  refine x_iload hκ dX16_init_20 rfl ?_
  refine c_putF hκ kX16 (by exact hk) 3 (by decide) q751 rfl rfl hnm rfl (by rfl) (by rfl) dX16_init_22 ?_
  refine x_aload_n hκ dX16_init_25 rfl ?_
  refine x_iload hκ dX16_init_26 rfl ?_
  refine c_putF hκ kX16 (by exact hk) 4 (by decide) q753 rfl rfl hnm rfl (by rfl) (by rfl) dX16_init_28 ?_
  refine x_aload_n hκ dX16_init_31 rfl ?_
  refine x_iload hκ dX16_init_32 rfl ?_
  refine c_putF hκ kX16 (by exact hk) 5 (by decide) q756 rfl rfl hnm rfl (by rfl) (by rfl) dX16_init_34 ?_
  refine x_aload_n hκ dX16_init_37 rfl ?_
  refine x_iload hκ dX16_init_38 rfl ?_
  refine c_putF hκ kX16 (by exact hk) 6 (by decide) q759 rfl rfl hnm rfl (by rfl) (by rfl) dX16_init_40 ?_
  refine x_aload_n hκ dX16_init_43 rfl ?_
  refine x_iload hκ dX16_init_44 rfl ?_
  refine c_putF hκ kX16 (by exact hk) 7 (by decide) q762 rfl rfl hnm rfl (by rfl) (by rfl) dX16_init_46 ?_
  refine x_aload_n hκ dX16_init_49 rfl ?_
  refine x_iload hκ dX16_init_50 rfl ?_
  refine c_putF hκ kX16 (by exact hk) 8 (by decide) q765 rfl rfl hnm rfl (by rfl) (by rfl) dX16_init_52 ?_
  refine c_retv hκ hr dX16_init_55 ?_
  refine ⟨rfl, rfl, kp _ _ _ (kp _ _ _ (kp _ _ _ (kp _ _ _ (kp _ _ _ (kp _ _ _ (kp _ _ _ (kp _ _ _ (kp _ _ _ Kp.rfl)))))))), ?_⟩
  simp only [oS_o, true_and, Nat.reduceEqDiff, ↓reduceIte]
/-- the ghost with one more letter -/
def gN (γ : Gh) (ar q : Nat) : Gh := (va_up (vL γ) (vN γ) q, vC γ, fun j => if j = 0 then ar else vA γ j, vR γ, vS γ, fun b => vZ γ b ∨ b = q, vQ γ, vN γ + 1, vT γ, vE γ)
theorem addS_r {σ : TS} {n k : Nat} {v1 v2 v3 v4 v5 v6 v7 v8 : Int32} (j : Nat) (h1 : 1 ≤ j) (h2 : j < 9) (hk : k ≠ n) : (addS σ n v1 v2 v3 v4 v5 v6 v7 v8).2 (25 + j) k = σ.2 (25 + j) k := by
  rcases (show j = 1 ∨ j = 2 ∨ j = 3 ∨ j = 4 ∨ j = 5 ∨ j = 6 ∨ j = 7 ∨ j = 8 by omega) with rfl | rfl | rfl | rfl | rfl | rfl | rfl | rfl <;> exact if_neg hk
theorem addS_fr {σ : TS} {n : Nat} {v1 v2 v3 v4 v5 v6 v7 v8 : Int32} : Fr [25, 26, 27, 28, 29, 30, 31, 32, 33] σ (addS σ n v1 v2 v3 v4 v5 v6 v7 v8) := ((((((((((Fr.rf _ σ).A rfl _ _).A rfl _ _).A rfl _ _).A rfl _ _).A rfl _ _).A rfl _ _).A rfl _ _).A rfl _ _).S rfl _)
theorem CWc.addL {E : gE} {L : Nat → Nat} {γ : Gh} {σ : TS} {c : Int32} {s s' : CSt} (h : CWc E L γ σ c s) (hE : s.1 (E.2 20) = 0) {ar' q : Nat} (hk : Kp (fun b => b = L 1 ∨ b = vA γ 0) s s') (hl : Lst E s' (L 1) ar' (vN γ + 1) (va_up (vL γ) (vN γ) q)) (har : ar' = vA γ 0 ∨ (ar' ≠ E.2 20 ∧ s.1 ar' = 0)) (hq0 : s.1 q = 0) (hqE : q ≠ E.2 20) (hq : s'.1 q = 15) (hn : vN γ ≤ 208) {v1 v2 v3 v4 v5 v6 v7 v8 : Int32} (w0 : s'.2.1 q 0 = .int (nI (vN γ))) (w1 : s'.2.1 q 1 = .int v1) (w2 : s'.2.1 q 2 = .int v2) (w3 : s'.2.1 q 3 = .int v3) (w4 : s'.2.1 q 4 = .int v4) (w5 : s'.2.1 q 5 = .int v5) (w6 : s'.2.1 q 6 = .int v6) (w7 : s'.2.1 q 7 = .int v7) (w8 : s'.2.1 q 8 = .int v8) : CWc E L (gN γ ar' q) (addS σ (vN γ) v1 v2 v3 v4 v5 v6 v7 v8) c s' := by
  obtain ⟨a1, a2, a3, a4, a5, a6, a7, a8, a9, a10, a11⟩ := h.lst hE (r := 1) (i := 0) (by decide) rfl (by decide) hk hl.1
  have hf := addS_fr (σ := σ) (n := vN γ) (v1 := v1) (v2 := v2) (v3 := v3) (v4 := v4) (v5 := v5) (v6 := v6) (v7 := v7) (v8 := v8)
  have nq : ∀ {x : Nat}, s.1 x ≠ 0 → ¬ x = q := fun hx z => hx (by rw [z]; exact hq0)
  refine ⟨a1, a2.fr hf rfl, ⟨rfl, by show vN γ + 1 ≤ 209; omega, hl, fun k hk2 => ?_⟩, a3.fr hf rfl, fun t ht => ?_, a4.fr hf rfl, ⟨fun i hi => ?_, a5.2⟩, ⟨fun b hb => ?_, fun b hb => ?_⟩, fun r hr => ?_, fun i hi => ?_, fun t i ht hi => ?_, h.x.2.2.2.1, fun i j hi hj z => ?_⟩
  · have hk2 : k < vN γ + 1 := hk2
    by_cases e : k = vN γ
    · subst e
      have ev : va_up (vL γ) (vN γ) q (vN γ) = q := if_pos rfl
      show s'.1 (va_up (vL γ) (vN γ) q (vN γ)) = 15 ∧ _
      rw [ev]
      refine ⟨hq, ?_, ?_, fun j h1 h2 => ?_⟩
      · show vZ γ (va_up (vL γ) (vN γ) q (vN γ)) ∨ va_up (vL γ) (vN γ) q (vN γ) = q
        rw [ev]; exact Or.inr rfl
      · show s'.2.1 (va_up (vL γ) (vN γ) q (vN γ)) 0 = _
        rw [ev]; exact w0
      · show s'.2.1 (va_up (vL γ) (vN γ) q (vN γ)) j = _
        rw [ev]
        rcases (show j = 1 ∨ j = 2 ∨ j = 3 ∨ j = 4 ∨ j = 5 ∨ j = 6 ∨ j = 7 ∨ j = 8 by omega) with rfl | rfl | rfl | rfl | rfl | rfl | rfl | rfl
        · rw [w1]; exact congrArg Value.int (if_pos rfl).symm
        · rw [w2]; exact congrArg Value.int (if_pos rfl).symm
        · rw [w3]; exact congrArg Value.int (if_pos rfl).symm
        · rw [w4]; exact congrArg Value.int (if_pos rfl).symm
        · rw [w5]; exact congrArg Value.int (if_pos rfl).symm
        · rw [w6]; exact congrArg Value.int (if_pos rfl).symm
        · rw [w7]; exact congrArg Value.int (if_pos rfl).symm
        · rw [w8]; exact congrArg Value.int (if_pos rfl).symm
    · have ev : va_up (vL γ) (vN γ) q k = vL γ k := if_neg e
      obtain ⟨g1, g2, g3, g4⟩ := a7 k (by omega)
      show s'.1 (va_up (vL γ) (vN γ) q k) = 15 ∧ (vZ γ (va_up (vL γ) (vN γ) q k) ∨ va_up (vL γ) (vN γ) q k = q) ∧ s'.2.1 (va_up (vL γ) (vN γ) q k) 0 = _ ∧ ∀ j, 1 ≤ j → j < 9 → s'.2.1 (va_up (vL γ) (vN γ) q k) j = _
      rw [ev]
      exact ⟨g1, Or.inl g2, g3, fun j h1 h2 => by rw [addS_r j h1 h2 e]; exact g4 j h1 h2⟩
  · obtain ⟨g1, g2, g3, g4, g5⟩ := h.t t ht
    refine ⟨a9 t ht, g2, g3, ?_, fun i hi => ?_⟩
    · show Lst E s' (L (23 + t)) (if 1 + t = 0 then ar' else vA γ (1 + t)) (vT γ t) (vC γ t)
      rw [if_neg (by omega)]
      exact a11 t ht (by omega) (by omega)
    · obtain ⟨p1, l, p2, p3, p4, p5, p6⟩ := a8 t i ht hi
      refine ⟨p1, l, by show l < vN γ + 1; omega, p3, ?_, p5, p6⟩
      show _ = Value.ref (va_up (vL γ) (vN γ) q l)
      rw [show va_up (vL γ) (vN γ) q l = vL γ l from if_neg (by omega)]
      exact p4
  · rcases a5.1 i hi with z | ⟨g1, g2, g3, g4, g5, g6, g7, g8⟩
    · exact Or.inl z
    · refine Or.inr ⟨g1, g2, g3, g4, g5, g6, fun z => ?_, g8⟩
      rcases z with z | z
      · exact g7 z
      · have hs := h.kS hi (show σ.2 54 i ≠ -1 by have g1 : σ.2 54 i = 0 ∨ σ.2 54 i = 1 := g1; rcases g1 with e | e <;> rw [e] <;> decide)
        exact nq (x := vS γ i) (by omega) z
  · rcases hb with z | z
    · exact a6.1 b z
    · rw [z]; omega
  · exact (a6.2 b hb).kp (P := fun _ => False) Kp.rfl (fun _ _ z => z) (fun _ z => Or.inl z)
  · rintro (z | z)
    · exact h.x.1 r hr z
    · exact nq (h.sc.z hr) z
  · show ¬ (vZ γ (if i = 0 then ar' else vA γ i) ∨ (if i = 0 then ar' else vA γ i) = q)
    by_cases e : i = 0
    · rw [if_pos e]
      rintro (z | z)
      · rcases har with w | w
        · exact h.x.2.1 0 (by decide) (by rw [← w]; exact z)
        · exact h.r.1 _ z w.2
      · rcases hl.2.2.2.2 with w | w
        · exact hqE (z.symm.trans w.1)
        · rw [z, hq] at w; omega
    · rw [if_neg e]
      rintro (z | z)
      · exact h.x.2.1 i hi z
      · rcases h.k44 hi with w | w
        · exact hqE (z.symm.trans w)
        · exact nq (by omega) z
  · rintro (z | z)
    · exact h.x.2.2.1 t i ht hi z
    · exact nq (x := vC γ t i) (by have := (h.cp ht hi).1; omega) z
  · have z : (if i = 0 then ar' else vA γ i) = (if j = 0 then ar' else vA γ j) := z
    show (if i = 0 then ar' else vA γ i) = E.2 20 ∨ i = j
    have hfr : ∀ k, k < 13 → vA γ k = ar' → vA γ k = E.2 20 ∨ k = 0 := fun k hk2 z => by
      rcases har with z2 | z2
      · exact h.x.2.2.2.2 k 0 hk2 (by omega) (z.trans z2)
      · rcases h.k44 hk2 with z3 | z3
        · exact Or.inl z3
        · rw [z, z2.2] at z3; omega
    by_cases e : i = 0
    · rw [if_pos e] at z ⊢
      by_cases e' : j = 0
      · exact Or.inr (by omega)
      · rw [if_neg e'] at z
        rcases hfr j hj z.symm with w | w
        · exact Or.inl (z.trans w)
        · exact absurd w e'
    · rw [if_neg e] at z ⊢
      by_cases e' : j = 0
      · rw [if_pos e'] at z
        rcases hfr i hi z with w | w
        · exact Or.inl w
        · exact absurd w e
      · rw [if_neg e'] at z
        exact h.x.2.2.2.2 i j hi hj z
