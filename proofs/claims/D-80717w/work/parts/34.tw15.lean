
/-! the reference: a coming -/
abbrev acS : List Nat := [20, 21, 23, 24, 25, 26, 27, 28, 29, 30, 31, 32, 33, 35, 36, 38, 45, 46, 47, 48, 49, 50, 51, 52, 53]
/-- what a coming has done so far, since σ0 -/
def CI (σ0 : TS) (n8 n l b : Nat) (tr : Int32) (s : TS) : Prop :=
  Fr acS σ0 s ∧
  (∃ k8 : Nat, s.1 48 = nI k8 ∧ n8 ≤ k8 ∧ k8 + fr (tr ||| s.1 50) b ≤ n8 + fr tr b ∧ (∀ i, i < n8 → s.2 45 i = σ0.2 45 i ∧ s.2 46 i = σ0.2 46 i ∧ s.2 47 i = σ0.2 47 i) ∧ ∀ i, n8 ≤ i → i < k8 → s.2 45 i = nI l ∧ s.2 47 i = tr ||| (1 <<< (nI b &&& 31)) ∧ ∃ o, o < 3 ∧ ¬ o = b ∧ bt tr o = false ∧ s.2 46 i = nI o) ∧
  ((s.1 25 = nI n ∧ s.1 53 = -1 ∧ s.2 35 = σ0.2 35 ∧ s.1 38 = σ0.1 38 ∧ s.2 26 = σ0.2 26 ∧ s.2 27 = σ0.2 27 ∧ s.2 28 = σ0.2 28 ∧ s.2 29 = σ0.2 29 ∧ s.2 30 = σ0.2 30 ∧ s.2 31 = σ0.2 31 ∧ s.2 32 = σ0.2 32 ∧ s.2 33 = σ0.2 33) ∨
   (s.1 25 = nI (n + 1) ∧ s.1 53 = nI n ∧ mayP σ0 l b ∧ s.2 35 = upd (σ0.2 35) (16 * b + Int32.toNatClampNeg (σ0.2 26 l)) (σ0.2 33 l) ∧ s.1 38 = σ0.1 38 + 1 ∧ s.2 26 = upd (σ0.2 26) n (nI b) ∧ s.2 27 = upd (σ0.2 27) n (1 <<< (σ0.2 26 l &&& 31)) ∧ s.2 28 = upd (σ0.2 28) n 0 ∧ s.2 29 = upd (σ0.2 29) n 100 ∧ s.2 30 = upd (σ0.2 30) n 2 ∧ s.2 31 = upd (σ0.2 31) n (nI (10000 + n)) ∧ s.2 32 = upd (σ0.2 32) n (σ0.2 31 l) ∧ s.2 33 = upd (σ0.2 33) n (σ0.2 33 l))) ∧
  (s.1 51 = 0 ∨ s.1 51 = 1) ∧ (s.1 52 = 0 ∨ s.1 52 = 1) ∧ s.1 23 = nI l ∧ s.1 24 = nI b
def in0 (σ : TS) (l b : Nat) : TS := tS (tS (tS (tS (tS (tS (tS σ 49 0) 50 0) 51 0) 52 0) 53 (-1)) 23 (nI l)) 24 (nI b)
theorem or_0 (x : Int32) : x ||| 0 = x := b_ext fun i _ => by rw [b_or, b_0, Bool.or_false]
theorem CI.start {σ : TS} {n8 n l b : Nat} {tr : Int32} (h8 : σ.1 48 = nI n8) (hn : σ.1 25 = nI n) : CI σ n8 n l b tr (in0 σ l b) := by
  refine ⟨(((((((Fr.rf acS σ).S rfl 0).S rfl 0).S rfl 0).S rfl 0).S rfl (-1)).S rfl _).S rfl _, ⟨n8, h8, Nat.le_refl _, ?_, fun i _ => ⟨rfl, rfl, rfl⟩, fun i h1 h2 => by omega⟩, Or.inl ⟨hn, rfl, rfl, rfl, rfl, rfl, rfl, rfl, rfl, rfl, rfl, rfl⟩, Or.inl rfl, Or.inl rfl, rfl, rfl⟩
  show n8 + fr (tr ||| 0) b ≤ _
  rw [or_0]
  exact Nat.le_refl _
theorem updne {f : Nat → Int32} {n l : Nat} {v : Int32} (h : l < n) : upd f n v l = f l := if_neg (by omega)
/-- the letter's own rows stay -/
theorem CI.row {σ : TS} {n8 n l b : Nat} {tr : Int32} {s : TS} (h : CI σ n8 n l b tr s) (hl : l < n) : s.2 26 l = σ.2 26 l ∧ s.2 27 l = σ.2 27 l ∧ s.2 28 l = σ.2 28 l ∧ s.2 29 l = σ.2 29 l ∧ s.2 30 l = σ.2 30 l ∧ s.2 31 l = σ.2 31 l ∧ s.2 32 l = σ.2 32 l ∧ s.2 33 l = σ.2 33 l := by
  rcases h.2.2.1 with ⟨-, -, -, -, e1, e2, e3, e4, e5, e6, e7, e8⟩ | ⟨-, -, -, -, -, e1, e2, e3, e4, e5, e6, e7, e8⟩
  · rw [e1, e2, e3, e4, e5, e6, e7, e8]
    exact ⟨rfl, rfl, rfl, rfl, rfl, rfl, rfl, rfl⟩
  · rw [e1, e2, e3, e4, e5, e6, e7, e8]
    exact ⟨updne hl, updne hl, updne hl, updne hl, updne hl, updne hl, updne hl, updne hl⟩
theorem nI_inj {a b : Nat} (ha : a < 2 ^ 31) (hb : b < 2 ^ 31) (h : nI a = nI b) : a = b := (nI_eq ha hb).mp h
theorem CI.acts {σ : TS} {n8 n l b : Nat} {tr : Int32} {s : TS} (hn8 : n8 ≤ 61) (hn : n ≤ 208) (hl : l < n) (hb : b < 3) (hd : 1 ≤ (σ.2 8 b).toInt) {k : Nat} (hk : k ≤ 10) (h : CI σ n8 n l b tr s) : CI σ n8 n l b tr (actsS s (nI k) l b tr) := by
  obtain ⟨hF, ⟨k8, e48, g1, g2, g3, g4⟩, hA, h51, h52, h23, h24⟩ := id h
  have hrow := h.row hl
  have hfr := fr_le (x := tr) hb
  unfold actsS
  have i4 : ∀ m : Nat, m ≤ 10 → (nI k < nI m ↔ k < m) := fun m hm => nI_ltI (by omega) (by omega)
  have i5 : ∀ m : Nat, m ≤ 10 → (nI k = nI m ↔ k = m) := fun m hm => nI_eq (by omega) (by omega)
  have q4 : nI k < (4 : Int32) ↔ k < 4 := i4 4 (by omega)
  have q7 : nI k < (7 : Int32) ↔ k < 7 := i4 7 (by omega)
  have p7 : nI k = (7 : Int32) ↔ k = 7 := i5 7 (by omega)
  have p8 : nI k = (8 : Int32) ↔ k = 8 := i5 8 (by omega)
  have p9 : nI k = (9 : Int32) ↔ k = 9 := i5 9 (by omega)
  by_cases c4 : k < 4
  · rw [if_pos (q4.mpr c4)]
    exact ⟨hF.S rfl _, ⟨k8, e48, g1, g2, g3, g4⟩, hA, h51, h52, h23, h24⟩
  rw [if_neg (fun z => c4 (q4.mp z))]
  by_cases c7 : k < 7
  · rw [if_pos (q7.mpr c7), show nI k - 4 = nI (k - 4) from pk_sub (a := k) (b := 4) (by omega)]
    split
    · rename_i hc
      obtain ⟨c1, c2, c3⟩ := hc
      rw [bit_0 (by omega)] at c2 c3
      have c1 : ¬ k - 4 = b := fun z => c1 (by rw [z])
      have e8 : Int32.toNatClampNeg (s.1 48) = k8 := by rw [e48]; exact nI_clamp (by omega)
      rw [e8]
      have hx : bt (tr ||| s.1 50) (k - 4) = false := by rw [b_or, c2, c3]; rfl
      have hp := fr_put (x := tr ||| s.1 50) (b := b) (o := k - 4) (by omega) c1 hx
      have hor : (tr ||| s.1 50) ||| (1 <<< (nI (k - 4) &&& 31)) = tr ||| (s.1 50 ||| (1 <<< (nI (k - 4) &&& 31))) := b_ext fun i _ => by rw [b_or, b_or, b_or, b_or, Bool.or_assoc]
      rw [hor] at hp
      refine ⟨(((((hF.S rfl _).S rfl _).A rfl _ _).A rfl _ _).A rfl _ _).S rfl _, ⟨k8 + 1, rfl, by omega, ?_, fun i hi => ?_, fun i h1 h2 => ?_⟩, hA, h51, h52, h23, h24⟩
      · show k8 + 1 + fr (tr ||| (s.1 50 ||| (1 <<< (nI (k - 4) &&& 31)))) b ≤ _
        omega
      · obtain ⟨a1, a2, a3⟩ := g3 i hi
        exact ⟨(if_neg (by omega)).trans a1, (if_neg (by omega)).trans a2, (if_neg (by omega)).trans a3⟩
      · by_cases hi : i = k8
        · subst hi
          exact ⟨if_pos rfl, if_pos rfl, k - 4, by omega, c1, c2, if_pos rfl⟩
        · obtain ⟨a1, a2, o, a3, a4, a5, a6⟩ := g4 i h1 (by omega)
          exact ⟨(if_neg hi).trans a1, (if_neg hi).trans a2, o, a3, a4, a5, (if_neg hi).trans a6⟩
    · exact h
  rw [if_neg (fun z => c7 (q7.mp z))]
  by_cases d7 : k = 7
  · rw [if_pos (p7.mpr d7)]
    exact ⟨hF.S rfl _, ⟨k8, e48, g1, g2, g3, g4⟩, hA, Or.inr rfl, h52, h23, h24⟩
  rw [if_neg (fun z => d7 (p7.mp z))]
  by_cases d8 : k = 8
  · rw [if_pos (p8.mpr d8)]
    split
    · rename_i hm
      rcases hA with ⟨a25, a53, a35, a38, a26, a27, a28, a29, a30, a31, a32, a33⟩ | ⟨a25, a53, am, a35, a38, a26, a27, a28, a29, a30, a31, a32, a33⟩
      · have e25 : Int32.toNatClampNeg (s.1 25) = n := by rw [a25]; exact nI_clamp (by omega)
        rw [e25]
        have h8 : s.2 8 = σ.2 8 := (hF 8 rfl).2
        have hm0 : mayP σ l b := by
          unfold mayP at hm ⊢
          rw [a30, a27, a26, a33, a35, h8] at hm
          exact hm
        refine ⟨?_, ⟨k8, e48, g1, g2, g3, g4⟩, Or.inr ⟨rfl, rfl, hm0, ?_, ?_, ?_, ?_, ?_, ?_, ?_, ?_, ?_, ?_⟩, h51, h52, h23, h24⟩
        · exact (((((((((((hF.A rfl _ _).S rfl _).S rfl _).A rfl _ _).A rfl _ _).A rfl _ _).A rfl _ _).A rfl _ _).A rfl _ _).A rfl _ _).A rfl _ _).S rfl _
        · show upd (s.2 35) _ _ = _
          rw [a35, a26, a33]
        · show s.1 38 + 1 = _
          rw [a38]
        · show upd (s.2 26) _ _ = _
          rw [a26]
        · show upd (s.2 27) _ (1 <<< (s.2 26 l &&& 31)) = _
          rw [a27, a26]
        · show upd (s.2 28) _ _ = _
          rw [a28]
        · show upd (s.2 29) _ _ = _
          rw [a29]
        · show upd (s.2 30) _ _ = _
          rw [a30]
        · show upd (s.2 31) _ _ = _
          rw [a31]
        · show upd (s.2 32) _ (s.2 31 l) = _
          rw [a32, a31]
        · show upd (s.2 33) _ (s.2 33 l) = _
          rw [a33]
      · exfalso
        apply hm.2.2.2
        have h8 : s.2 8 = σ.2 8 := (hF 8 rfl).2
        rw [h8, a35, hrow.1, hrow.2.2.2.2.2.2.2, show upd (σ.2 35) (16 * b + Int32.toNatClampNeg (σ.2 26 l)) (σ.2 33 l) (16 * b + Int32.toNatClampNeg (σ.2 26 l)) = σ.2 33 l from if_pos rfl, show σ.2 33 l - σ.2 33 l = 0 from by rw [Int32.sub_self]]
        simp only [Int32.reduceToInt]
        omega
    · exact h
  rw [if_neg (fun z => d8 (p8.mp z))]
  by_cases d9 : k = 9
  · rw [if_pos (p9.mpr d9)]
    exact ⟨hF.S rfl _, ⟨k8, e48, g1, g2, g3, g4⟩, hA, h51, Or.inr rfl, h23, h24⟩
  · rw [if_neg (fun z => d9 (p9.mp z))]
    exact h
