
/-! the component: acts -/
/-- τ, but its letters and its answers as they were in σ -/
def und (σ τ : TS) : TS := (fun k => if k = 25 ∨ k = 38 then σ.1 k else τ.1 k, fun k => if 26 ≤ k ∧ k ≤ 33 then σ.2 k else τ.2 k)
def RnI (E : gE) (L : Nat → Nat) (γ : Gh) (σ : TS) (c : Int32) (τ : TS) (l b : Nat) (tr z : Int32) (s : CSt) : Prop := CWc E L γ (und σ τ) c s ∧ Qu L γ τ s ∧ ArA L γ τ l b tr z s
theorem und_fr {σ τ τ' : TS} {S : List Nat} (h : Fr S τ τ') : Fr S (und σ τ) (und σ τ') := fun k hk => by
  unfold und
  refine ⟨?_, ?_⟩
  · show (if k = 25 ∨ k = 38 then σ.1 k else τ'.1 k) = if k = 25 ∨ k = 38 then σ.1 k else τ.1 k
    rw [(h k hk).1]
  · show (if 26 ≤ k ∧ k ≤ 33 then σ.2 k else τ'.2 k) = if 26 ≤ k ∧ k ≤ 33 then σ.2 k else τ.2 k
    rw [(h k hk).2]
theorem und_self (σ : TS) : und σ σ = σ := by
  unfold und
  refine Prod.ext ?_ ?_ <;> funext k
  · show (if k = 25 ∨ k = 38 then σ.1 k else σ.1 k) = σ.1 k
    split <;> rfl
  · show (if 26 ≤ k ∧ k ≤ 33 then σ.2 k else σ.2 k) = σ.2 k
    split <;> rfl
theorem Qu.sg {L : Nat → Nat} {γ : Gh} {τ τ' : TS} {s : CSt} (h : Qu L γ τ s) (h1 : τ'.1 48 = τ.1 48) (h2 : τ'.2 45 = τ.2 45) (h3 : τ'.2 46 = τ.2 46) (h4 : τ'.2 47 = τ.2 47) : Qu L γ τ' s := by
  unfold Qu
  rw [h1, h2, h3, h4]
  exact h
theorem mX5_begin {E : gE} {L : Nat → Nat} {γ : Gh} {σ : TS} {c : Int32} {s : CSt} (h : CWc E L γ σ c s) (hq : Qu L γ σ s) {l b d : Nat} {tr : Int32} : CMg E s yX5_begin cX5_begin 4 none d 0 0 [.ref (L 44), .ref (vL γ l), .ref (L (5 + b)), .int tr] (qV (RnI E L γ σ c (in0 σ l b) l b tr 0)) := by
  have hf : Fr [23, 24, 49, 50, 51, 52, 53] σ (in0 σ l b) := (((((((Fr.rf _ σ).S rfl 0).S rfl 0).S rfl 0).S rfl 0).S rfl (-1)).S rfl _).S rfl _
  have hf2 := und_fr (σ := σ) hf
  rw [und_self] at hf2
  have k44 := h.sc.k (r := 44) (by decide)
  have h1 := h.a44 (k := 1) (by decide) (.ref (vL γ l))
  have h2 := h1.a44 (k := 2) (by decide) (.ref (L (5 + b)))
  have h3 := h2.a44 (k := 3) (by decide) (.int tr)
  have h4 := h3.a44 (k := 4) (by decide) (.int 0)
  have h5 := h4.a44 (k := 5) (by decide) (.int 0)
  have h6 := h5.a44 (k := 6) (by decide) (.int 0)
  have h7 := h6.a44 (k := 7) (by decide) (.int 0)
  have h8 := h7.a44 (k := 8) (by decide) (.int 0)
  have h9 := h8.a44 (k := 9) (by decide) (.int 0)
  have q9 := (((((((((hq.a44 h.sc (k := 1) (.ref (vL γ l))).a44 h1.sc (k := 2) (.ref (L (5 + b)))).a44 h2.sc (k := 3) (.int tr)).a44 h3.sc (k := 4) (.int 0)).a44 h4.sc (k := 5) (.int 0)).a44 h5.sc (k := 6) (.int 0)).a44 h6.sc (k := 7) (.int 0)).a44 h7.sc (k := 8) (.int 0)).a44 h8.sc (k := 9) (.int 0))
  refine CMg.of (by decide) (Nat.le_of_ble_eq_true rfl) ?_
  rintro κ rfl hL hκ hr
  refine x_aload_n hκ dX5_begin_0 rfl ?_
  refine x_aload_n hκ dX5_begin_1 rfl ?_
  refine c_put hκ kX5 (by exact k44) 1 (by decide) (Or.inl q568) rfl rfl (by rfl) (by rfl) dX5_begin_2 ?_
  refine x_aload_n hκ dX5_begin_5 rfl ?_
  refine x_aload_n hκ dX5_begin_6 rfl ?_
  refine c_put hκ kX5 (by exact k44) 2 (by decide) (Or.inl q570) rfl rfl (by rfl) (by rfl) dX5_begin_7 ?_
  refine x_aload_n hκ dX5_begin_10 rfl ?_
  refine x_iload_n hκ dX5_begin_11 rfl ?_
  refine c_put hκ kX5 (by exact k44) 3 (by decide) (Or.inl q572) rfl rfl (by rfl) (by rfl) dX5_begin_12 ?_
  refine x_aload_n hκ dX5_begin_15 rfl ?_
  refine x_iconst (v := 0) hκ dX5_begin_16 (by decide) ?_
  refine c_put hκ kX5 (by exact k44) 4 (by decide) (Or.inl q573) rfl rfl (by rfl) (by rfl) dX5_begin_17 ?_
  refine x_aload_n hκ dX5_begin_20 rfl ?_
  refine x_iconst (v := 0) hκ dX5_begin_21 (by decide) ?_
  refine c_put hκ kX5 (by exact k44) 5 (by decide) (Or.inl q575) rfl rfl (by rfl) (by rfl) dX5_begin_22 ?_
  refine x_aload_n hκ dX5_begin_25 rfl ?_
  refine x_iconst (v := 0) hκ dX5_begin_26 (by decide) ?_
  refine c_put hκ kX5 (by exact k44) 6 (by decide) (Or.inl q577) rfl rfl (zn_n (by first | exact Or.inl rfl | exact Or.inr rfl | assumption)) (zn_f (by first | exact Or.inl rfl | exact Or.inr rfl | assumption)) dX5_begin_27 ?_
  refine x_aload_n hκ dX5_begin_30 rfl ?_
  refine x_iconst (v := 0) hκ dX5_begin_31 (by decide) ?_
  refine c_put hκ kX5 (by exact k44) 7 (by decide) (Or.inl q579) rfl rfl (zn_n (by first | exact Or.inl rfl | exact Or.inr rfl | assumption)) (zn_f (by first | exact Or.inl rfl | exact Or.inr rfl | assumption)) dX5_begin_32 ?_
  refine x_aload_n hκ dX5_begin_35 rfl ?_
  refine x_iconst (v := 0) hκ dX5_begin_36 (by decide) ?_
  refine c_put hκ kX5 (by exact k44) 8 (by decide) (Or.inl q581) rfl rfl (zn_n (by first | exact Or.inl rfl | exact Or.inr rfl | assumption)) (zn_f (by first | exact Or.inl rfl | exact Or.inr rfl | assumption)) dX5_begin_37 ?_
  refine x_aload_n hκ dX5_begin_40 rfl ?_
  refine x_iconst (v := 0) hκ dX5_begin_41 (by decide) ?_
  refine c_put hκ kX5 (by exact k44) 9 (by decide) (Or.inl q583) rfl rfl (zn_n (by first | exact Or.inl rfl | exact Or.inr rfl | assumption)) (zn_f (by first | exact Or.inl rfl | exact Or.inr rfl | assumption)) dX5_begin_42 ?_
  refine c_retv hκ hr dX5_begin_45 ?_
  refine ⟨h9.fr hf2 (by decide), q9.sg rfl rfl rfl rfl, ?_⟩
  unfold ArA
  simp only [oS_o, true_and, Nat.reduceEqDiff, ↓reduceIte]
  exact ⟨rfl, rfl, rfl, rfl, rfl, trivial⟩
/-- what posting rests on beside GI: days, dates, days of answers -/
def Aw (σ : TS) (n : Nat) : Prop := (∀ i, i < 48 → σ.2 35 i = -1000 ∨ 0 ≤ (σ.2 35 i).toInt) ∧ (∀ b, b < 3 → 1 ≤ (σ.2 8 b).toInt ∧ (σ.2 8 b).toInt ≤ 99) ∧ ∀ l, l < n → 0 ≤ (σ.2 33 l).toInt ∧ (σ.2 33 l).toInt ≤ 9999
theorem CWc.answ {E : gE} {L : Nat → Nat} {γ : Gh} {σ : TS} {c : Int32} {s : CSt} (h : CWc E L γ σ c s) {b k : Nat} (hb : b < 3) (hk : k < 16) {v : Int32} (hv : ¬ v = -1000) : CWc E L γ (tA σ 35 (16 * b + k) v) c (aS s (L (38 + b)) k v) := by
  obtain ⟨a1, a2, a3, a4, a5, a6, a7⟩ := h.at (r := 38 + b) (by omega) (Kp.aS (s := s) (k := k) (v := v) rfl)
  have hf : Fr [35] σ (tA σ 35 (16 * b + k) v) := (Fr.rf _ _).A rfl _ _
  refine ⟨h.sc.aS, (a1 (by omega) (by omega)).fr hf rfl, (a2 (by omega)).fr hf rfl, fun u hu => ?_, (a4 (by omega)).fr hf rfl, (a5 (by omega) (by omega)).fr hf rfl, (a6 (by omega)).fr hf rfl, a7, h.x⟩
  obtain ⟨g1, g2, g3, g4⟩ := h.b u hu
  refine ⟨g1, g2, fun j hj => ?_, fun j hj => ?_⟩
  · rw [aS_a, if_neg (fun z => h.sc.ne (by omega) (by omega) (by omega) z.1)]
    exact g3 j hj
  · rw [aS_a, tA_2, if_pos rfl]
    unfold upd
    by_cases e : u = b ∧ j = k
    · rw [if_pos ⟨by rw [e.1], e.2⟩, if_pos (by omega)]
      unfold ans
      rw [if_neg hv]
    · rw [if_neg (fun z => e ⟨by have := h.sc.1 _ _ (by omega) (by omega) z.1; omega, z.2⟩), if_neg (by omega)]
      exact g4 j hj
theorem ArA.o44 {L : Nat → Nat} {γ : Gh} {τ τ' : TS} {l b : Nat} {tr z : Int32} {s s' : CSt} (h : ArA L γ τ l b tr z s) (hs : ∀ k, s'.2.1 (L 44) k = s.2.1 (L 44) k) (e1 : τ'.1 49 = τ.1 49) (e2 : τ'.1 50 = τ.1 50) (e3 : τ'.1 51 = τ.1 51) (e4 : τ'.1 52 = τ.1 52) (e5 : τ'.1 53 = τ.1 53) : ArA L γ τ' l b tr z s' := by
  unfold ArA
  rw [hs, hs, hs, hs, hs, hs, hs, hs, hs, e1, e2, e3, e4, e5]
  exact h
theorem Qu.aS {L : Nat → Nat} {γ : Gh} {τ : TS} {s : CSt} (h : Qu L γ τ s) {a i : Nat} {v : Int32} (h1 : ¬ L 42 = a) (h2 : ¬ L 43 = a) : Qu L γ τ (aS s a i v) := by
  obtain ⟨m, g1, g2, g3, g4⟩ := h
  refine ⟨m, g1, g2, g3, fun j hj => ?_⟩
  obtain ⟨q1, q2, q3⟩ := g4 j hj
  exact ⟨q1, by rw [aS_a, if_neg (fun z => h1 z.1)]; exact q2, by rw [aS_a, if_neg (fun z => h2 z.1)]; exact q3⟩
theorem Qu.o0 {L : Nat → Nat} {γ : Gh} {τ : TS} {s : CSt} (h : Qu L γ τ s) {k : Nat} (hk : k ≠ 11) (v : Value) : Qu L γ τ (oS s (L 0) k v) := by
  obtain ⟨m, g1, g2, g3, g4⟩ := h
  exact ⟨m, g1, g2, by rw [oS_o, if_neg (fun z => hk z.2.symm)]; exact g3, g4⟩
theorem und_S {σ τ : TS} {k : Nat} {v : Int32} (h1 : ¬ k = 25) (h2 : ¬ k = 38) : und σ (tS τ k v) = tS (und σ τ) k v := by
  refine Prod.ext ?_ rfl
  funext j
  show (if j = 25 ∨ j = 38 then σ.1 j else (tS τ k v).1 j) = (tS (und σ τ) k v).1 j
  rw [tS_1, tS_1]
  show _ = if j = k then v else if j = 25 ∨ j = 38 then σ.1 j else τ.1 j
  by_cases e : j = k
  · rw [if_pos e, if_pos e, if_neg (by omega)]
  · rw [if_neg e, if_neg e]
