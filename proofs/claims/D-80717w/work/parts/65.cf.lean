
/-! what a change leaves -/
section CFL
variable {E : gE} {L : Nat → Nat} {γ : Gh} {σ : TS} {c : Int32} {s s' : CSt} {P : Nat → Prop}
theorem Sc.n3 (h : Sc L s) : s.2.2.2.2 (L 3) = 90 := h.n (r := 3) (by decide) (by decide)
theorem Sc.n4 (h : Sc L s) : s.2.2.2.2 (L 4) = 3 := h.n (r := 4) (by decide) (by decide)
theorem Sc.n41 (h : Sc L s) : s.2.2.2.2 (L 41) = 64 := h.n (r := 41) (by decide) (by decide)
theorem Sc.n42 (h : Sc L s) : s.2.2.2.2 (L 42) = 64 := h.n (r := 42) (by decide) (by decide)
theorem Sc.n43 (h : Sc L s) : s.2.2.2.2 (L 43) = 64 := h.n (r := 43) (by decide) (by decide)
theorem Sc.n45 (h : Sc L s) : s.2.2.2.2 (L 45) = 2 := h.n (r := 45) (by decide) (by decide)
theorem Sc.n46 (h : Sc L s) : s.2.2.2.2 (L 46) = 24 := h.n (r := 46) (by decide) (by decide)
theorem Sc.n48 (h : Sc L s) : s.2.2.2.2 (L 48) = 2 := h.n (r := 48) (by decide) (by decide)
theorem Sc.z (h : Sc L s) {r : Nat} (hr : r < 51) : s.1 (L r) ≠ 0 := by rw [h.k hr]; exact (kst_c hr).1
theorem cP.kp (h : cP L σ c s) (sc : Sc L s) (hk : Kp P s s') (h0 : ¬ P (L 0)) (h3 : ¬ P (L 3)) : cP L σ c s' := by
  obtain ⟨g1, ⟨x2, g2⟩, ⟨x3, g3⟩, ⟨x4, g4⟩, g5, g6, g7, g8, g9, g10⟩ := h
  have k0 := (hk (L 0) (sc.z (by decide)) h0).2.1
  have k3 := (hk (L 3) (sc.z (by decide)) h3).2.2.1
  exact ⟨(k0 3).trans g1, ⟨x2, (k0 4).trans g2⟩, ⟨x3, (k0 5).trans g3⟩, ⟨x4, (k0 11).trans g4⟩, (k0 12).trans g5, (k0 13).trans g6, (k0 14).trans g7, (k0 15).trans g8, (k0 16).trans g9, fun i hi => (k3 i).trans (g10 i hi)⟩
theorem LtA.kp (hk : Kp P s s') {k : Nat} (h : LtA γ σ s k) (hp : ¬ P (vL γ k)) : LtA γ σ s' k := by
  obtain ⟨g1, g2, g3, g4⟩ := h
  have k0 := hk (vL γ k) (by omega) hp
  exact ⟨k0.1.trans g1, g2, (k0.2.1 0).trans g3, fun j h1 h2 => (k0.2.1 j).trans (g4 j h1 h2)⟩
theorem cL.kp (h : cL E L γ σ s) (hk : Kp P s s') (h1 : ¬ P (L 1)) (h2 : vA γ 0 = E.2 20 ∨ ¬ P (vA γ 0)) (h3 : ∀ k, k < vN γ → ¬ P (vL γ k)) : cL E L γ σ s' :=
  ⟨h.1, h.2.1, h.2.2.1.kp hk h1 h2, fun k hk2 => (h.2.2.2 k hk2).kp hk (h3 k hk2)⟩
theorem cB.kp (h : cB L γ σ s) (sc : Sc L s) (hk : Kp P s s') (hp : ∀ b, b < 3 → ¬ P (L (5 + b)) ∧ ¬ P (L (35 + b)) ∧ ¬ P (L (38 + b))) : cB L γ σ s' := fun b hb => by
  obtain ⟨g1, g2, g3, g4⟩ := h b hb
  obtain ⟨p1, p2, p3⟩ := hp b hb
  have k1 := (hk (L (5 + b)) (sc.z (by omega)) p1).2.1
  have k2 := (hk (L (35 + b)) (sc.z (by omega)) p2).2.2.1
  have k3 := (hk (L (38 + b)) (sc.z (by omega)) p3).2.2.1
  exact ⟨(k1 4).trans g1, (k1 5).trans g2, fun j hj => (k2 j).trans (g3 j hj), fun j hj => (k3 j).trans (g4 j hj)⟩
theorem CpA.kp (hk : Kp P s s') {t i : Nat} (h : CpA γ σ s t i) (hp : ¬ P (vC γ t i)) : CpA γ σ s' t i := by
  obtain ⟨g1, l, g2, g3, g4, g5, g6⟩ := h
  have k0 := hk (vC γ t i) (by omega) hp
  exact ⟨k0.1.trans g1, l, g2, g3, (k0.2.1 0).trans g4, (k0.2.1 1).trans g5, (k0.2.1 2).trans g6⟩
theorem cT.kp (h : cT E L γ σ s) (sc : Sc L s) (hk : Kp P s s') (hp : ∀ t, t < 12 → ¬ P (L (11 + t)) ∧ ¬ P (L (23 + t)) ∧ (vA γ (1 + t) = E.2 20 ∨ ¬ P (vA γ (1 + t))) ∧ ∀ i, i < vT γ t → ¬ P (vC γ t i)) : cT E L γ σ s' := fun t ht => by
  obtain ⟨g1, g2, g3, g4, g5⟩ := h t ht
  obtain ⟨p1, p2, p3, p4⟩ := hp t ht
  exact ⟨((hk (L (11 + t)) (sc.z (by omega)) p1).2.1 1).trans g1, g2, g3, g4.kp hk p2 p3, fun i hi => (g5 i hi).kp hk (p4 i hi)⟩
theorem cK.kp (h : cK L σ s) (sc : Sc L s) (hk : Kp P s s') (h1 : ¬ P (L 45)) (h2 : ¬ P (L 46)) : cK L σ s' :=
  ⟨fun k hk2 => ((hk (L 45) (sc.z (by decide)) h1).2.2.1 k).trans (h.1 k hk2), fun k hk2 => ((hk (L 46) (sc.z (by decide)) h2).2.2.1 k).trans (h.2 k hk2)⟩
theorem ShA.kp (hk : Kp P s s') (sc : Sc L s) {i : Nat} (hi : i < 2) (h : ShA L γ σ s i) (h1 : ¬ P (L (49 + i))) (h2 : σ.2 54 i ≠ -1 → ¬ P (vS γ i)) : ShA L γ σ s' i := by
  have k0 := (hk (L (49 + i)) (sc.z (by omega)) h1).2.1
  rcases h with ⟨g1, g2⟩ | ⟨g1, g2, g3, g4, g5, g6, g7, g8⟩
  · exact Or.inl ⟨g1, (k0 0).trans g2⟩
  · have k1 := hk (vS γ i) (by rw [g3]; split <;> decide) (h2 (by rcases g1 with e | e <;> rw [e] <;> decide))
    exact Or.inr ⟨g1, (k0 0).trans g2, k1.1.trans g3, by rw [k1.2.2.2.2]; exact g4, by rw [k1.2.2.2.2]; exact g5, fun j hj => (k1.2.2.1 j).trans (g6 j (by rw [← k1.2.2.2.2]; exact hj)), g7, g8⟩
theorem cS.kp (h : cS L γ σ s) (sc : Sc L s) (hk : Kp P s s') (hp : ∀ i, i < 2 → ¬ P (L (49 + i)) ∧ (σ.2 54 i ≠ -1 → ¬ P (vS γ i))) : cS L γ σ s' :=
  ⟨fun i hi => (h.1 i hi).kp hk sc hi (hp i hi).1 (hp i hi).2, h.2⟩
theorem cR.kp (h : cR E γ s) (hk : Kp P s s') (hp : ∀ b, vZ γ b → ¬ P b) : cR E γ s' := ⟨fun b hb => by rw [(hk b (h.1 b hb) (hp b hb)).1]; exact h.1 b hb, fun b hb => (h.2 b hb).kp hk hp (fun _ z => z)⟩
theorem Sc.of (h : Sc L s) (h1 : ∀ r, r < 51 → s'.1 (L r) = s.1 (L r)) (h2 : ∀ r, r < 51 → 30 ≤ kst r → s'.2.2.2.2 (L r) = s.2.2.2.2 (L r)) (h3 : ∀ r k r', r < 51 → fst r k = some r' → s'.2.1 (L r) k = s.2.1 (L r) k) (h4 : ∀ b, b < 3 → s'.2.1 (L (5 + b)) 0 = s.2.1 (L (5 + b)) 0) (h5 : ∀ r i r', r < 51 → est r i = some r' → s'.2.2.2.1 (L r) i = s.2.2.2.1 (L r) i) : Sc L s' :=
  ⟨h.1, fun r hr => (h1 r hr).trans (h.2.1 r hr), fun r hr hk => (h2 r hr hk).trans (h.2.2.1 r hr hk), fun r k r' hr hf => (h3 r k r' hr hf).trans (h.2.2.2.1 r k r' hr hf), fun b hb => (h4 b hb).trans (h.2.2.2.2.1 b hb), fun r i r' hr hf => (h5 r i r' hr hf).trans (h.2.2.2.2.2 r i r' hr hf)⟩
theorem Sc.kp (h : Sc L s) (hk : Kp P s s') (hp : ∀ r, r < 51 → ¬ P (L r)) : Sc L s' := by
  have k0 : ∀ r, r < 51 → _ := fun r hr => hk (L r) (h.z hr) (hp r hr)
  exact h.of (fun r hr => (k0 r hr).1) (fun r hr _ => (k0 r hr).2.2.2.2) (fun r k r' hr _ => (k0 r hr).2.1 k) (fun b hb => (k0 (5 + b) (by omega)).2.1 0) (fun r i r' hr _ => (k0 r hr).2.2.2.1 i)
/-- a field that may change -/
theorem Sc.oS (h : Sc L s) {r k : Nat} {v : Value} (hr : r < 51) (hf : fst r k = none) (hb : 5 ≤ r → r < 8 → k ≠ 0) : Sc L (oS s (L r) k v) := by
  refine h.of (fun _ _ => rfl) (fun _ _ _ => rfl) (fun r1 k1 r' hr1 hf1 => ?_) (fun b hb1 => ?_) (fun _ _ _ _ _ => rfl)
  · rw [oS_o, if_neg]
    rintro ⟨z1, z2⟩
    rw [h.1 r1 r hr1 hr z1, z2, hf] at hf1
    cases hf1
  · rw [oS_o, if_neg]
    rintro ⟨z1, z2⟩
    have := h.1 (5 + b) r (by omega) hr z1
    exact hb (by omega) (by omega) z2.symm
theorem Sc.aS (h : Sc L s) {a i : Nat} {v : Int32} : Sc L (aS s a i v) := h.of (fun _ _ => rfl) (fun _ _ _ => rfl) (fun _ _ _ _ _ => rfl) (fun _ _ => rfl) (fun _ _ _ _ _ => rfl)
theorem Sc.fS (h : Sc L s) {a i : Nat} {v : Option Nat} (ha : ∀ r, r < 51 → a = L r → r = 41) : Sc L (fS s a i v) := by
  refine h.of (fun _ _ => rfl) (fun _ _ _ => rfl) (fun _ _ _ _ _ => rfl) (fun _ _ => rfl) (fun r j r' hr hf => ?_)
  rw [fS_f, if_neg]
  rintro ⟨z1, z2⟩
  have := ha r hr z1.symm
  subst this
  cases hf
/-- a list of ours has changed -/
theorem Sc.lst (h : Sc L s) {r ar : Nat} (hr : r < 51) (hk17 : kst r = 17) (har : ∀ r', r' < 51 → ar ≠ L r') (h1 : s'.1 (L r) = 17) (hk : Kp (fun b => b = L r ∨ b = ar) s s') : Sc L s' := by
  have k0 : ∀ r', r' < 51 → r' ≠ r → _ := fun r' hr' hn => hk (L r') (h.z hr') (by rintro (z | z); exact hn (h.1 _ _ hr' hr z); exact har r' hr' z.symm)
  have hk1 : s.1 (L r) = 17 := by rw [h.k hr, hk17]
  refine h.of (fun r' hr' => ?_) (fun r' hr' h30 => ?_) (fun r' k r2 hr' hf => ?_) (fun b hb => ?_) (fun r' i r2 hr' hf => ?_)
  · by_cases z : r' = r
    · rw [z, h1, hk1]
    · exact (k0 r' hr' z).1
  · by_cases z : r' = r
    · rw [z, hk17] at h30; omega
    · exact (k0 r' hr' z).2.2.2.2
  · by_cases z : r' = r
    · exfalso
      have : ∀ r, r < 51 → kst r = 17 → ∀ k, fst r k = none := by
        intro r hr h17 k
        have q : r = 1 ∨ (23 ≤ r ∧ r < 35) := by
          have : ∀ r, r < 51 → kst r = 17 → r = 1 ∨ (23 ≤ r ∧ r < 35) := by decide +kernel
          exact this r hr h17
        unfold fst
        rw [if_neg (by omega), if_neg (by omega), if_neg (by omega), if_neg (by omega)]
      rw [z, this r hr hk17 k] at hf
      cases hf
    · exact (k0 r' hr' z).2.1 k
  · refine (k0 (5 + b) (by omega) (fun z => ?_)).2.1 0
    rw [← z, (kst_b hb).1] at hk17
    omega
  · by_cases z : r' = r
    · exfalso
      have : ∀ r, r < 51 → kst r = 17 → ∀ k, est r k = none := by
        intro r hr h17 k
        have q : r = 1 ∨ (23 ≤ r ∧ r < 35) := by
          have : ∀ r, r < 51 → kst r = 17 → r = 1 ∨ (23 ≤ r ∧ r < 35) := by decide +kernel
          exact this r hr h17
        unfold est
        rw [if_neg (by omega), if_neg (by omega), if_neg (by omega)]
      rw [z, this r hr hk17 i] at hf
      cases hf
    · exact (k0 r' hr' z).2.2.2.1 i
/-! addresses are apart -/
theorem CWc.nL (h : CWc E L γ σ c s) {k r : Nat} (hk : k < vN γ) (hr : r < 51) : vL γ k ≠ L r := fun z => by
  have h1 := (h.l.2.2.2 k hk).1
  rw [z, h.sc.k hr] at h1
  exact (kst_c hr).2.2.1 h1
theorem CWc.nC (h : CWc E L γ σ c s) {t i r : Nat} (ht : t < 12) (hi : i < vT γ t) (hr : r < 51) : vC γ t i ≠ L r := fun z => by
  have h1 := ((h.t t ht).2.2.2.2 i hi).1
  rw [z, h.sc.k hr] at h1
  exact (kst_c hr).2.2.2.1 h1
theorem Lst.k44 {a ar n : Nat} {e : Nat → Nat} (h : Lst E s a ar n e) : ar = E.2 20 ∨ s.1 ar = 44 := by
  rcases h.2.2.2.2 with h | h
  · exact Or.inl h.1
  · exact Or.inr h.1
theorem CWc.aL (h : CWc E L γ σ c s) : Lst E s (L 1) (vA γ 0) (vN γ) (vL γ) := h.l.2.2.1
theorem CWc.aT (h : CWc E L γ σ c s) {t : Nat} (ht : t < 12) : Lst E s (L (23 + t)) (vA γ (1 + t)) (vT γ t) (vC γ t) := (h.t t ht).2.2.2.1
theorem CWc.k44 (h : CWc E L γ σ c s) {i : Nat} (hi : i < 13) : vA γ i = E.2 20 ∨ s.1 (vA γ i) = 44 := by
  by_cases z : i = 0
  · rw [z]; exact h.aL.k44
  · have := (h.aT (t := i - 1) (by omega)).k44
    rw [show 1 + (i - 1) = i by omega] at this
    exact this
theorem CWc.nA (h : CWc E L γ σ c s) {i r : Nat} (hi : i < 13) (hr : r < 51) : vA γ i = E.2 20 ∨ vA γ i ≠ L r := by
  rcases h.k44 hi with z | z
  · exact Or.inl z
  · refine Or.inr (fun q => ?_)
    rw [q, h.sc.k hr] at z
    exact (kst_c hr).2.1 z
theorem CWc.nS (h : CWc E L γ σ c s) {i r : Nat} (hi : i < 2) (hs : σ.2 54 i ≠ -1) (hr : r < 51) : vS γ i ≠ L r := by
  rcases h.sh.1 i hi with z | z
  · exact absurd z.1 hs
  · exact z.2.2.2.2.2.2.2 r hr
/-! numbers that others change -/
section FRL
variable {σ' : TS} {S : List Nat}
theorem Fr.o (hf : Fr S σ σ') {l : List Nat} (hS : l.all (fun k => !S.contains k) = true) {k : Nat} (hk : k ∈ l) : σ'.1 k = σ.1 k := (hf k (by have := List.all_eq_true.mp hS k hk; simpa using this)).1
theorem Fr.t (hf : Fr S σ σ') {l : List Nat} (hS : l.all (fun k => !S.contains k) = true) {k : Nat} (hk : k ∈ l) : σ'.2 k = σ.2 k := (hf k (by have := List.all_eq_true.mp hS k hk; simpa using this)).2
theorem cP.fr (h : cP L σ c s) (hf : Fr S σ σ') (hS : [0, 1, 36, 37, 38, 39].all (fun k => !S.contains k) = true) : cP L σ' c s := by
  obtain ⟨g1, g2, g3, g4, g5, g6, g7, g8, g9, g10⟩ := h
  exact ⟨by rw [hf.o hS (by decide)]; exact g1, g2, g3, g4, g5, by rw [hf.o hS (by decide)]; exact g6, by rw [hf.o hS (by decide)]; exact g7, by rw [hf.o hS (by decide)]; exact g8, by rw [hf.o hS (by decide)]; exact g9, by rw [hf.t hS (by decide)]; exact g10⟩
theorem LtA.fr {k : Nat} (h : LtA γ σ s k) (hf : Fr S σ σ') (hS : [25, 26, 27, 28, 29, 30, 31, 32, 33].all (fun k => !S.contains k) = true) : LtA γ σ' s k := by
  obtain ⟨g1, g2, g3, g4⟩ := h
  refine ⟨g1, g2, g3, fun j h1 h2 => ?_⟩
  rw [hf.t hS (k := 25 + j) (by simp only [List.mem_cons, List.not_mem_nil, or_false]; omega)]
  exact g4 j h1 h2
theorem cL.fr (h : cL E L γ σ s) (hf : Fr S σ σ') (hS : [25, 26, 27, 28, 29, 30, 31, 32, 33].all (fun k => !S.contains k) = true) : cL E L γ σ' s :=
  ⟨by rw [hf.o hS (by decide)]; exact h.1, h.2.1, h.2.2.1, fun k hk => (h.2.2.2 k hk).fr hf hS⟩
theorem cB.fr (h : cB L γ σ s) (hf : Fr S σ σ') (hS : [8, 34, 35].all (fun k => !S.contains k) = true) : cB L γ σ' s := fun b hb => by
  rw [hf.t hS (k := 8) (by decide), hf.t hS (k := 34) (by decide), hf.t hS (k := 35) (by decide)]
  exact h b hb
theorem CpA.fr {t i : Nat} (h : CpA γ σ s t i) (hf : Fr S σ σ') (hS : [7, 40, 41, 42, 43].all (fun k => !S.contains k) = true) : CpA γ σ' s t i := by
  unfold CpA
  rw [hf.t hS (k := 41) (by decide), hf.t hS (k := 42) (by decide), hf.t hS (k := 43) (by decide)]
  exact h
theorem cT.fr (h : cT E L γ σ s) (hf : Fr S σ σ') (hS : [7, 40, 41, 42, 43].all (fun k => !S.contains k) = true) : cT E L γ σ' s := fun t ht => by
  rw [hf.t hS (k := 7) (by decide), hf.t hS (k := 40) (by decide)]
  obtain ⟨g1, g2, g3, g4, g5⟩ := h t ht
  exact ⟨g1, g2, g3, g4, fun i hi => (g5 i hi).fr hf hS⟩
theorem cK.fr (h : cK L σ s) (hf : Fr S σ σ') (hS : [57, 58].all (fun k => !S.contains k) = true) : cK L σ' s := by
  unfold cK
  rw [hf.t hS (k := 57) (by decide), hf.t hS (k := 58) (by decide)]
  exact h
theorem cS.fr (h : cS L γ σ s) (hf : Fr S σ σ') (hS : [54, 55, 56].all (fun k => !S.contains k) = true) : cS L γ σ' s := by
  unfold cS ShA
  rw [hf.t hS (k := 54) (by decide), hf.t hS (k := 55) (by decide), hf.t hS (k := 56) (by decide)]
  exact h
/-- the reference's scratch doesn't matter -/
theorem CWc.fr (h : CWc E L γ σ c s) (hf : Fr S σ σ') (hS : [0, 1, 7, 8, 25, 26, 27, 28, 29, 30, 31, 32, 33, 34, 35, 36, 37, 38, 39, 40, 41, 42, 43, 54, 55, 56, 57, 58].all (fun k => !S.contains k) = true) : CWc E L γ σ' c s := by
  have hm : ∀ l : List Nat, (∀ k ∈ l, k ∈ [0, 1, 7, 8, 25, 26, 27, 28, 29, 30, 31, 32, 33, 34, 35, 36, 37, 38, 39, 40, 41, 42, 43, 54, 55, 56, 57, 58]) → l.all (fun k => !S.contains k) = true := fun l hl => List.all_eq_true.mpr (fun k hk => List.all_eq_true.mp hS k (hl k hk))
  exact ⟨h.sc, h.p.fr hf (hm _ (by decide)), h.l.fr hf (hm _ (by decide)), h.b.fr hf (hm _ (by decide)), h.t.fr hf (hm _ (by decide)), h.kn.fr hf (hm _ (by decide)), h.sh.fr hf (hm _ (by decide)), h.r, h.x⟩
theorem CW.fr (h : CW E L γ σ s) (hf : Fr S σ σ') (hS : [0, 1, 7, 8, 25, 26, 27, 28, 29, 30, 31, 32, 33, 34, 35, 36, 37, 38, 39, 40, 41, 42, 43, 54, 55, 56, 57, 58].all (fun k => !S.contains k) = true) : CW E L γ σ' s := by
  have h1 := CWc.fr h hf hS
  unfold CW
  rw [hf.t hS (k := 40) (by decide)]
  exact h1
end FRL
/-- what is changed at L r alone -/
theorem CWc.at (h : CWc E L γ σ c s) {r : Nat} (hr : r < 51) (hk : Kp (fun b => b = L r) s s') : (r ≠ 0 → r ≠ 3 → cP L σ c s') ∧ (r ≠ 1 → cL E L γ σ s') ∧ (r < 5 ∨ 8 ≤ r → r < 35 ∨ 41 ≤ r → cB L γ σ s') ∧ (r < 11 ∨ 35 ≤ r → cT E L γ σ s') ∧ (r ≠ 45 → r ≠ 46 → cK L σ s') ∧ (r < 49 → cS L γ σ s') ∧ cR E γ s' := by
  have hne : ∀ {r' : Nat}, r' < 51 → r' ≠ r → ¬ L r' = L r := fun h1 h2 => h.sc.ne h1 hr h2
  refine ⟨fun h0 h3 => h.p.kp h.sc hk (hne (by decide) (Ne.symm h0)) (hne (by decide) (Ne.symm h3)), fun h1 => h.l.kp hk (hne (by decide) (Ne.symm h1)) (h.nA (by decide) hr) (fun k hk2 => h.nL hk2 hr), fun h1 h2 => h.b.kp h.sc hk (fun b hb => ⟨hne (by omega) (by omega), hne (by omega) (by omega), hne (by omega) (by omega)⟩), fun h1 => h.t.kp h.sc hk (fun t ht => ⟨hne (by omega) (by omega), hne (by omega) (by omega), h.nA (by omega) hr, fun i hi => h.nC ht hi hr⟩), fun h1 h2 => h.kn.kp h.sc hk (hne (by decide) (Ne.symm h1)) (hne (by decide) (Ne.symm h2)), fun h1 => h.sh.kp h.sc hk (fun i hi => ⟨hne (by omega) (by omega), fun hs => h.nS hi hs hr⟩), h.r.kp hk (fun b hb z => h.x.1 r hr (by rw [← z]; exact hb))⟩
end CFL
