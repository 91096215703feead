
/-! the reference: the row's invariant -/
theorem comeE_Fr {s : TS} {l b : Nat} : Fr [34, 37, 39, 40, 41, 42, 43, 44, 45, 46, 47, 48, 49] s (comeE s l b) := by
  have h1 : Fr [34, 37, 39, 40, 41, 42, 43, 44, 45, 46, 47, 48, 49] s (cmE s l) := by
    unfold cmE
    split
    · exact ((((Fr.rf _ s).A rfl _ _).A rfl _ _).A rfl _ _).S rfl _
    · exact Fr.rf _ s
  unfold comeE s4E
  refine Fr.A ?_ rfl _ _
  refine Fr.trans ((h1.S rfl _).S rfl _) ((flS_Fr 4).sub (fun k hk => ?_))
  simp only [List.contains_cons, List.contains_nil, Bool.or_false, Bool.or_eq_false_iff] at hk ⊢
  exact ⟨hk.2.2.1, hk.2.2.2.1, hk.2.2.2.2.1, hk.2.2.2.2.2.1, hk.2.2.2.2.2.2.1, hk.2.2.2.2.2.2.2.1⟩
theorem comeE_q {s : TS} {l b : Nat} : (comeE s l b).1 48 = (cmE s l).1 48 ∧ (comeE s l b).2 45 = (cmE s l).2 45 ∧ (comeE s l b).2 46 = (cmE s l).2 46 ∧ (comeE s l b).2 47 = (cmE s l).2 47 := by
  unfold comeE
  generalize hz : s4E s l = z
  have h48 := flS_Fr (σ := z) (l := l) (b := b) 4 48 rfl
  have h45 := flS_Fr (σ := z) (l := l) (b := b) 4 45 rfl
  have h46 := flS_Fr (σ := z) (l := l) (b := b) 4 46 rfl
  have h47 := flS_Fr (σ := z) (l := l) (b := b) 4 47 rfl
  refine ⟨?_, ?_, ?_, ?_⟩
  · show (flS z l b 4).1.1 48 = _; rw [h48.1, ← hz]; rfl
  · show (flS z l b 4).1.2 45 = _; rw [h45.2, ← hz]; rfl
  · show (flS z l b 4).1.2 46 = _; rw [h46.2, ← hz]; rfl
  · show (flS z l b 4).1.2 47 = _; rw [h47.2, ← hz]; rfl
theorem cmE_40 {s : TS} {l : Nat} : (cmE s l).2 40 = s.2 40 ∧ (cmE s l).2 34 = s.2 34 := by
  unfold cmE
  split <;> exact ⟨rfl, rfl⟩
theorem comeE_40 {s : TS} {l b : Nat} (k : Nat) : (comeE s l b).2 40 k = s.2 40 k ∨ (comeE s l b).2 40 k = s.2 40 k + 1 := by
  unfold comeE
  generalize hz : s4E s l = z
  have e : z.2 40 = s.2 40 := by rw [← hz]; exact cmE_40.1
  have := (flS_le (σ := z) (l := l) (b := b) 4).2.1 k
  rw [e] at this
  exact this
theorem comeE_34 {s : TS} {l b : Nat} : (comeE s l b).2 34 = upd (s.2 34) (10210 * b + Int32.toNatClampNeg (s.2 31 l)) 1 := by
  unfold comeE
  generalize hz : s4E s l = z
  have e : z.2 34 = s.2 34 := by rw [← hz]; exact cmE_40.2
  show upd ((flS z l b 4).1.2 34) _ _ = _
  rw [(flS_Fr (σ := z) (l := l) (b := b) 4 34 rfl).2, e]
def rowOk (σ : TS) (l : Nat) : Prop := (0 ≤ (σ.2 26 l).toInt ∧ (σ.2 26 l).toInt ≤ 15) ∧ (0 ≤ (σ.2 31 l).toInt ∧ (σ.2 31 l).toInt ≤ 10209) ∧ (σ.2 32 l).toInt ≤ 10209
def mp (σ : TS) (l b : Nat) : Nat := if mayP σ l b then 1 else 0
def mpc (σ : TS) (l : Nat) : Nat := mp σ l 0 + mp σ l 1 + mp σ l 2
def QI (R : Nat → Rl) (l0 : Nat) (σ : TS) (k n8 n : Nat) : Prop :=
  σ.1 48 = nI n8 ∧ k ≤ n8 ∧ σ.1 25 = nI n ∧ l0 < n ∧ k + pend σ k (n8 - k) + 5 * mpc σ l0 ≤ 30 ∧ n + mpc σ l0 ≤ l0 + 4 ∧ l0 ≤ 190 ∧ (∀ i, k ≤ i → i < n8 → ∃ l b : Nat, σ.2 45 i = nI l ∧ σ.2 46 i = nI b ∧ l < n ∧ b < 3 ∧ (l = l0 ∨ ¬ σ.2 30 l = 0)) ∧ (∀ l, l < n → rowOk σ l) ∧ (∀ j : Nat, σ.2 34 j = 0 ∨ σ.2 34 j = 1) ∧ (∀ b, b < 3 → 1 ≤ (σ.2 8 b).toInt) ∧ (∀ t, t < 12 → 0 ≤ (σ.2 40 t).toInt ∧ (σ.2 40 t).toInt ≤ 180 + k) ∧ ∀ b, b < 3 → RV σ b (R b)
theorem RV_of {σ s : TS} {b : Nat} {R : Rl} (h2 : s.2 2 = σ.2 2) (h3 : s.2 3 = σ.2 3) (h4 : s.2 4 = σ.2 4) (h5 : s.2 5 = σ.2 5) (h6 : s.2 6 = σ.2 6) (h : RV σ b R) : RV s b R := by
  unfold RV
  rw [h2, h3, h4, h5, h6]
  exact h
theorem QI.step {R : Nat → Rl} {l0 k n8 n : Nat} {σ : TS} (h : QI R l0 σ k n8 n) (hk : k < n8) {l b : Nat} (e45 : σ.2 45 k = nI l) (e46 : σ.2 46 k = nI b) (hl : l < n) (hb : b < 3) (hll : l = l0 ∨ ¬ σ.2 30 l = 0) {s : TS} (hci : CI σ n8 n l b (σ.2 47 k) s) : ∃ n8' n', QI R l0 (comeE s l b) (k + 1) n8' n' := by
  obtain ⟨h48, hkn, h25, hl0, hpot, hlet, h190, hent, hrow, hhad, hday, hcnt, hRV⟩ := h
  have hci0 := hci
  obtain ⟨hF, ⟨k8, c48, cg1, cg2, cg3, cg4⟩, hA, -, -, -, -⟩ := hci
  have hcF := comeE_Fr (s := s) (l := l) (b := b)
  obtain ⟨q48, q45, q46, q47⟩ := comeE_q (s := s) (l := l) (b := b)
  have eb : Int32.toNatClampNeg (σ.2 46 k) = b := by rw [e46]; exact nI_clamp (by omega)
  have ew : wE σ k = wt (fr (σ.2 47 k) b) := by unfold wE; rw [eb]
  have hfr2 := fr_le (x := σ.2 47 k) hb
  have hps : pend σ k (n8 - k) = wE σ k + pend σ (k + 1) (n8 - (k + 1)) := by
    rw [show n8 - k = (n8 - (k + 1)) + 1 by omega]; exact pend_s _
  have hge := pend_ge (σ := σ) (k := k) (n8 - k)
  -- sums over s
  have hsum : pend s (k + 1) (k8 - (k + 1)) + 1 ≤ pend σ k (n8 - k) := by
    rw [show k8 - (k + 1) = (n8 - (k + 1)) + (k8 - n8) by omega, pend_app, hps]
    have p1 : pend s (k + 1) (n8 - (k + 1)) = pend σ (k + 1) (n8 - (k + 1)) := pend_congr _ (fun i hi => by
      unfold wE
      obtain ⟨-, a2, a3⟩ := cg3 (k + 1 + i) (by omega)
      rw [a2, a3])
    have p2 : pend s (k + 1 + (n8 - (k + 1))) (k8 - n8) ≤ (k8 - n8) * wt (fr (σ.2 47 k) b - 1) := pend_le _ (fun i hi => by
      obtain ⟨-, a2, o, a3, a4, a5, a6⟩ := cg4 (k + 1 + (n8 - (k + 1)) + i) (by omega) (by omega)
      unfold wE
      rw [a2, a6, show Int32.toNatClampNeg (nI o) = o from nI_clamp (by omega)]
      have := fr_next hb a3 a4 a5
      rw [show fr (σ.2 47 k ||| 1 <<< (nI b &&& 31)) o = fr (σ.2 47 k) b - 1 by omega]
      exact Nat.le_refl _)
    have p3 := wt_mul hfr2
    have p4 : (k8 - n8) * wt (fr (σ.2 47 k) b - 1) ≤ fr (σ.2 47 k) b * wt (fr (σ.2 47 k) b - 1) := Nat.mul_le_mul_right _ (by omega)
    omega
  have hs2 : ∀ j : Nat, ([34, 37, 39, 40, 41, 42, 43, 44, 45, 46, 47, 48, 49] : List Nat).contains j = false → (comeE s l b).2 j = s.2 j := fun j hj => (hcF j hj).2
  have hentS : ∀ i, k + 1 ≤ i → i < k8 → ∃ l' b' : Nat, s.2 45 i = nI l' ∧ s.2 46 i = nI b' ∧ l' < n ∧ b' < 3 ∧ (l' = l0 ∨ ¬ σ.2 30 l' = 0) := by
    intro i h1 h2
    by_cases hi : i < n8
    · obtain ⟨a1, a2, -⟩ := cg3 i hi
      obtain ⟨l', b', b1, b2, b3, b4, b5⟩ := hent i (by omega) hi
      exact ⟨l', b', a1.trans b1, a2.trans b2, b3, b4, b5⟩
    · obtain ⟨a1, -, o, a3, -, -, a6⟩ := cg4 i (by omega) h2
      exact ⟨l, o, a1, a6, hl, a3, hll⟩
  have hhad2 : ∀ j : Nat, (comeE s l b).2 34 j = 0 ∨ (comeE s l b).2 34 j = 1 := by
    intro j
    rw [comeE_34, (hF 34 rfl).2]
    unfold upd
    split
    · exact Or.inr rfl
    · exact hhad j
  have hday2 : ∀ b', b' < 3 → 1 ≤ ((comeE s l b).2 8 b').toInt := fun b' hb' => by rw [hs2 8 rfl, (hF 8 rfl).2]; exact hday b' hb'
  have hcnt2 : ∀ t, t < 12 → 0 ≤ ((comeE s l b).2 40 t).toInt ∧ ((comeE s l b).2 40 t).toInt ≤ 180 + ((k + 1 : Nat) : Int) := by
    intro t ht
    have h1 := hcnt t ht
    have e40 := (hF 40 rfl).2
    rcases comeE_40 (s := s) (l := l) (b := b) t with z | z
    · rw [z, e40]; omega
    · rw [z, e40, i32_add (by simp only [Int32.reduceToInt]; omega) (by simp only [Int32.reduceToInt]; omega)]
      simp only [Int32.reduceToInt]
      omega
  have hRV2 : ∀ b', b' < 3 → RV (comeE s l b) b' (R b') := fun b' hb' => RV_of ((hs2 2 rfl).trans (hF 2 rfl).2) ((hs2 3 rfl).trans (hF 3 rfl).2) ((hs2 4 rfl).trans (hF 4 rfl).2) ((hs2 5 rfl).trans (hF 5 rfl).2) ((hs2 6 rfl).trans (hF 6 rfl).2) (hRV b' hb')
  have e8d : (comeE s l b).2 8 = σ.2 8 := (hs2 8 rfl).trans (hF 8 rfl).2
  rcases hA with ⟨a25, a53, a35, a38, a26, a27, a28, a29, a30, a31, a32, a33⟩ | ⟨a25, a53, am, a35, a38, a26, a27, a28, a29, a30, a31, a32, a33⟩
  · -- no answer
    have hcm : cmE s l = s := if_neg (fun z => by rw [a53] at z; exact absurd z.1 (by decide))
    rw [hcm] at q48 q45 q46 q47
    have hmp : ∀ b', mp (comeE s l b) l0 b' = mp σ l0 b' := by
      intro b'
      unfold mp mayP
      rw [hs2 30 rfl, hs2 27 rfl, hs2 26 rfl, hs2 33 rfl, hs2 35 rfl, e8d, a30, a27, a26, a33, a35]
    refine ⟨k8, n, by rw [q48]; exact c48, by omega, by rw [(hcF 25 rfl).1]; exact a25, hl0, ?_, ?_, h190, ?_, ?_, hhad2, hday2, hcnt2, hRV2⟩
    · have e : pend (comeE s l b) (k + 1) (k8 - (k + 1)) = pend s (k + 1) (k8 - (k + 1)) := pend_congr _ (fun i _ => by unfold wE; rw [q46, q47])
      rw [e]
      unfold mpc at hpot ⊢
      rw [hmp, hmp, hmp]
      omega
    · unfold mpc at hlet ⊢
      rw [hmp, hmp, hmp]
      exact hlet
    · intro i h1 h2
      rw [q45, q46, hs2 30 rfl, a30]
      exact hentS i h1 h2
    · intro l' hl'
      unfold rowOk
      rw [hs2 26 rfl, hs2 31 rfl, hs2 32 rfl, a26, a31, a32]
      exact hrow l' hl'
  · -- an answer
    have hlz : l = l0 := by
      rcases hll with z | z
      · exact z
      · exact absurd am.1 z
    subst hlz
    have hrl := hrow l hl
    have hmp : ∀ b', b' < 3 → ¬ b' = b → mp (comeE s l b) l b' = mp σ l b' := by
      intro b' hb' hne
      unfold mp mayP
      rw [hs2 30 rfl, hs2 27 rfl, hs2 26 rfl, hs2 33 rfl, hs2 35 rfl, e8d, a30, a27, a26, a33, a35, updne hl, updne hl, updne hl, updne hl, show upd (σ.2 35) (16 * b + Int32.toNatClampNeg (σ.2 26 l)) (σ.2 33 l) (16 * b' + Int32.toNatClampNeg (σ.2 26 l)) = σ.2 35 (16 * b' + Int32.toNatClampNeg (σ.2 26 l)) from if_neg (fun z => by
        have : Int32.toNatClampNeg (σ.2 26 l) ≤ 15 := by show (σ.2 26 l).toInt.toNat ≤ 15; have := hrl.1; omega
        omega)]
    have hmb : mp (comeE s l b) l b = 0 := by
      unfold mp mayP
      rw [if_neg]
      rintro ⟨-, -, -, z⟩
      apply z
      rw [hs2 26 rfl, hs2 33 rfl, hs2 35 rfl, e8d, a26, a33, a35, updne hl, updne hl, show upd (σ.2 35) (16 * b + Int32.toNatClampNeg (σ.2 26 l)) (σ.2 33 l) (16 * b + Int32.toNatClampNeg (σ.2 26 l)) = σ.2 33 l from if_pos rfl, Int32.sub_self]
      have := hday b hb
      simp only [Int32.reduceToInt]
      omega
    have hma : mp σ l b = 1 := if_pos am
    have hmc : mpc (comeE s l b) l + 1 = mpc σ l := by
      unfold mpc
      rcases (by omega : b = 0 ∨ b = 1 ∨ b = 2) with rfl | rfl | rfl
      · rw [hmb, hma, hmp 1 (by omega) (by omega), hmp 2 (by omega) (by omega)] <;> omega
      · rw [hmb, hma, hmp 0 (by omega) (by omega), hmp 2 (by omega) (by omega)] <;> omega
      · rw [hmb, hma, hmp 0 (by omega) (by omega), hmp 1 (by omega) (by omega)] <;> omega
    have hrows : ∀ l', l' < n + 1 → rowOk (comeE s l b) l' := by
      intro l' hl'
      unfold rowOk
      rw [hs2 26 rfl, hs2 31 rfl, hs2 32 rfl, a26, a31, a32]
      by_cases hn : l' = n
      · subst hn
        rw [show upd (σ.2 26) l' (nI b) l' = nI b from if_pos rfl, show upd (σ.2 31) l' (nI (10000 + l')) l' = nI (10000 + l') from if_pos rfl, show upd (σ.2 32) l' (σ.2 31 l) l' = σ.2 31 l from if_pos rfl, nI_toInt (by omega), nI_toInt (by omega)]
        exact ⟨by omega, by omega, hrl.2.1.2⟩
      · rw [updne (by omega), updne (by omega), updne (by omega)]
        exact hrow l' (by omega)
    have hflag : ∀ l', l' < n → (l' = l ∨ ¬ σ.2 30 l' = 0) → (l' = l ∨ ¬ (comeE s l b).2 30 l' = 0) := fun l' h1 h2 => by
      rw [hs2 30 rfl, a30, updne h1]
      exact h2
    have hfl : (s.2 26 l) = σ.2 26 l := by rw [a26, updne hl]
    by_cases hlt : (σ.2 26 l).toInt < 3
    · have hcm : cmE s l = toComeS s (Int32.toNatClampNeg (s.1 48)) (s.1 53) (s.2 26 l) 0 := if_pos ⟨by rw [a53, nI_toInt (by omega)]; omega, by rw [hfl]; exact hlt⟩
      have e8 : Int32.toNatClampNeg (s.1 48) = k8 := by rw [c48]; exact nI_clamp (by omega)
      rw [hcm, e8, a53, hfl] at q48 q45 q46 q47
      obtain ⟨fb, hfb, efb⟩ : ∃ fb : Nat, fb < 3 ∧ σ.2 26 l = nI fb := ⟨Int32.toNatClampNeg (σ.2 26 l), by show (σ.2 26 l).toInt.toNat < 3; omega, i32_nI hrl.1.1⟩
      have q45' : ∀ i, (comeE s l b).2 45 i = if i = k8 then nI n else s.2 45 i := fun i => by rw [q45]; rfl
      have q46' : ∀ i, (comeE s l b).2 46 i = if i = k8 then σ.2 26 l else s.2 46 i := fun i => by rw [q46]; rfl
      have q47' : ∀ i, (comeE s l b).2 47 i = if i = k8 then 0 else s.2 47 i := fun i => by rw [q47]; rfl
      refine ⟨k8 + 1, n + 1, by rw [q48]; rfl, by omega, by rw [(hcF 25 rfl).1]; exact a25, by omega, ?_, by omega, h190, ?_, hrows, hhad2, hday2, hcnt2, hRV2⟩
      · have e : pend (comeE s l b) (k + 1) (k8 + 1 - (k + 1)) ≤ pend s (k + 1) (k8 - (k + 1)) + 5 := by
          rw [show k8 + 1 - (k + 1) = (k8 - (k + 1)) + 1 by omega, pend, pend_congr (s := comeE s l b) (σ := s) _ (fun i hi => by unfold wE; rw [q46', q47', if_neg (by omega), if_neg (by omega)])]
          have : wE (comeE s l b) (k + 1 + (k8 - (k + 1))) ≤ 5 := by
            unfold wE wt
            split
            · omega
            · split <;> omega
          omega
        omega
      · intro i h1 h2
        rw [q45', q46']
        by_cases hi : i = k8
        · rw [if_pos hi, if_pos hi]
          refine ⟨n, fb, rfl, efb, by omega, hfb, Or.inr ?_⟩
          rw [hs2 30 rfl, a30, show upd (σ.2 30) n 2 n = 2 from if_pos rfl]
          decide
        · rw [if_neg hi, if_neg hi]
          obtain ⟨l', b', b1, b2, b3, b4, b5⟩ := hentS i h1 (by omega)
          exact ⟨l', b', b1, b2, by omega, b4, hflag l' b3 b5⟩
    · have hcm : cmE s l = s := if_neg (fun z => hlt (by rw [← hfl]; exact z.2))
      rw [hcm] at q48 q45 q46 q47
      refine ⟨k8, n + 1, by rw [q48]; exact c48, by omega, by rw [(hcF 25 rfl).1]; exact a25, by omega, ?_, by omega, h190, ?_, hrows, hhad2, hday2, hcnt2, hRV2⟩
      · have e : pend (comeE s l b) (k + 1) (k8 - (k + 1)) = pend s (k + 1) (k8 - (k + 1)) := pend_congr _ (fun i _ => by unfold wE; rw [q46, q47])
        rw [e]
        omega
      · intro i h1 h2
        rw [q45, q46]
        obtain ⟨l', b', b1, b2, b3, b4, b5⟩ := hentS i h1 h2
        exact ⟨l', b', b1, b2, by omega, b4, hflag l' b3 b5⟩
