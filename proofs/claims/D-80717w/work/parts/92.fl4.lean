
/-! the component: the copies are made -/
/-- ghosts that differ in the trays alone -/
def gEq (γ γ' : Gh) : Prop := vL γ' = vL γ ∧ vN γ' = vN γ ∧ vZ γ' = vZ γ ∧ vR γ' = vR γ ∧ vS γ' = vS γ ∧ vQ γ' = vQ γ ∧ vE γ' = vE γ
theorem gEq.rf {γ : Gh} : gEq γ γ := ⟨rfl, rfl, rfl, rfl, rfl, rfl, rfl⟩
theorem gEq.T {γ γ' : Gh} (h : gEq γ γ') {t n ar : Nat} {e : Nat → Nat} : gEq γ (gT γ' t n ar e) := h
theorem gEq.qu {L : Nat → Nat} {γ γ' : Gh} {τ : TS} {s : CSt} (h : gEq γ γ') (hq : Qu L γ τ s) : Qu L γ' τ s := by
  unfold Qu
  rw [h.1, h.2.1]
  exact hq
/-- the row of what is to come stands apart from trays -/
theorem Qu.tr {E : gE} {L : Nat → Nat} {γ : Gh} {σ : TS} {c : Int32} {τ : TS} {s s' : CSt} (h : CWc E L γ σ c s) (hE : s.1 (E.2 20) = 0) (hq : Qu L γ τ s) {t : Nat} (ht : t < 12) (hk : Kp (fun b => b = L (23 + t) ∨ b = vA γ (1 + t)) s s') : Qu L γ τ s' ∧ ∀ k, s'.2.1 (L 44) k = s.2.1 (L 44) k := by
  have nL : ∀ {r : Nat}, r < 51 → r ≠ 23 + t → ¬ (L r = L (23 + t) ∨ L r = vA γ (1 + t)) := fun hr hn z => by
    rcases z with z | z
    · exact hn (h.sc.1 _ _ hr (by omega) z)
    · exact h.nP hE (by omega) (h.sc.z hr) (by rw [h.sc.k hr]; exact (kst_c hr).2.1) z
  obtain ⟨m, g1, g2, g3, g4⟩ := hq
  have k0 := hk (L 0) (h.sc.z (by decide)) (nL (by decide) (by omega))
  have k1 := hk (L 41) (h.sc.z (by decide)) (nL (by decide) (by omega))
  have k2 := hk (L 42) (h.sc.z (by decide)) (nL (by decide) (by omega))
  have k3 := hk (L 43) (h.sc.z (by decide)) (nL (by decide) (by omega))
  have k4 := hk (L 44) (h.sc.z (by decide)) (nL (by decide) (by omega))
  refine ⟨⟨m, g1, g2, (k0.2.1 11).trans g3, fun i hi => ?_⟩, k4.2.1⟩
  obtain ⟨⟨l, q1, q2, q3⟩, q4, q5⟩ := g4 i hi
  exact ⟨⟨l, q1, q2, (k1.2.2.2.1 i).trans q3⟩, (k2.2.2.1 i).trans q4, (k3.2.2.1 i).trans q5⟩
