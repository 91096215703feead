
/-! filing: the order of the trays doesn't matter -/
theorem putC_comm {σ : TS} {t1 t2 n1 n2 : Nat} {l m w : Int32} (hne : t1 ≠ t2) (h1 : σ.2 40 t1 = nI n1) (h2 : σ.2 40 t2 = nI n2) (b1 : n1 ≤ 299) (b2 : n2 ≤ 299) : putC (putC σ t1 l m w) t2 l m w = putC (putC σ t2 l m w) t1 l m w := by
  have e1 : (putC σ t1 l m w).2 40 t2 = nI n2 := by rw [putC_40, if_neg (Ne.symm hne)]; exact h2
  have e2 : (putC σ t2 l m w).2 40 t1 = nI n1 := by rw [putC_40, if_neg hne]; exact h1
  refine Prod.ext (by rw [putC_1, putC_1, putC_1, putC_1]) ?_
  funext k
  by_cases h40 : k = 40
  · subst h40
    rw [putC_s40, putC_s40, putC_s40, putC_s40]
    funext j
    unfold upd
    by_cases c1 : j = t1 <;> by_cases c2 : j = t2
    · omega
    · simp only [c1, if_neg hne, ↓reduceIte]
    · simp only [c2, if_neg (Ne.symm hne), ↓reduceIte]
    · simp only [c1, c2, ↓reduceIte]
  · by_cases h41 : k = 41
    · subst h41
      funext j
      rw [(putC_41 (i := j) e1 b2).1, (putC_41 (i := j) h1 b1).1, (putC_41 (i := j) e2 b1).1, (putC_41 (i := j) h2 b2).1]
      split <;> split <;> rfl
    · by_cases h42 : k = 42
      · subst h42
        funext j
        rw [(putC_41 (i := j) e1 b2).2.1, (putC_41 (i := j) h1 b1).2.1, (putC_41 (i := j) e2 b1).2.1, (putC_41 (i := j) h2 b2).2.1]
        split <;> split <;> rfl
      · by_cases h43 : k = 43
        · subst h43
          funext j
          rw [(putC_41 (i := j) e1 b2).2.2, (putC_41 (i := j) h1 b1).2.2, (putC_41 (i := j) e2 b1).2.2, (putC_41 (i := j) h2 b2).2.2]
          split <;> split <;> rfl
        · have q : ∀ (σ : TS) (t : Nat), (putC σ t l m w).2 k = σ.2 k := fun σ t => by
            unfold putC
            simp only [tA_2, if_neg h40, if_neg h41, if_neg h42, if_neg h43]
          rw [q, q, q, q]
theorem putC_tS {σ : TS} {t k : Nat} {l m w v : Int32} : putC (tS σ k v) t l m w = tS (putC σ t l m w) k v := rfl
/-- what is filed, tray 0 first: p t: a copy goes to tray t -/
def flC (σ : TS) (l b : Nat) (m : Int32) (p : Nat → Bool) : Nat → TS
  | 0 => σ
  | t + 1 => if p t then putC (flC σ l b m p t) (4 * b + t) (nI l) m 0 else flC σ l b m p t
