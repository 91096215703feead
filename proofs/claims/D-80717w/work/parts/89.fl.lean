
/-! filing: the order of the trays doesn't matter -/
theorem putC_comm {σ : TS} {t1 t2 n1 n2 : Nat} {l m w : Int32} (hne : t1 ≠ t2) (h1 : σ.2 40 t1 = nI n1) (h2 : σ.2 40 t2 = nI n2) (b1 : n1 ≤ 299) (b2 : n2 ≤ 299) : putC (putC σ t1 l m w) t2 l m w = putC (putC σ t2 l m w) t1 l m w := by
  have e1 : (putC σ t1 l m w).2 40 t2 = nI n2 := by rw [putC_40, if_neg (Ne.symm hne)]; exact h2
  have e2 : (putC σ t2 l m w).2 40 t1 = nI n1 := by rw [putC_40, if_neg hne]; exact h1
  refine Prod.ext (by rw [putC_1, putC_1, putC_1, putC_1]) ?_
  funext k
  by_cases h40 : k = 40
  · subst h40
    rw [putC_s40, putC_s40, putC_s40, putC_s40]
    funext j
    unfold upd
    by_cases c1 : j = t1 <;> by_cases c2 : j = t2
    · omega
    · simp only [c1, if_neg hne, ↓reduceIte]
    · simp only [c2, if_neg (Ne.symm hne), ↓reduceIte]
    · simp only [c1, c2, ↓reduceIte]
  · by_cases h41 : k = 41
    · subst h41
      funext j
      rw [(putC_41 (i := j) e1 b2).1, (putC_41 (i := j) h1 b1).1, (putC_41 (i := j) e2 b1).1, (putC_41 (i := j) h2 b2).1]
      split <;> split <;> rfl
    · by_cases h42 : k = 42
      · subst h42
        funext j
        rw [(putC_41 (i := j) e1 b2).2.1, (putC_41 (i := j) h1 b1).2.1, (putC_41 (i := j) e2 b1).2.1, (putC_41 (i := j) h2 b2).2.1]
        split <;> split <;> rfl
      · by_cases h43 : k = 43
        · subst h43
          funext j
          rw [(putC_41 (i := j) e1 b2).2.2, (putC_41 (i := j) h1 b1).2.2, (putC_41 (i := j) e2 b1).2.2, (putC_41 (i := j) h2 b2).2.2]
          split <;> split <;> rfl
        · have q : ∀ (σ : TS) (t : Nat), (putC σ t l m w).2 k = σ.2 k := fun σ t => by
            unfold putC
            simp only [tA_2, if_neg h40, if_neg h41, if_neg h42, if_neg h43]
          rw [q, q, q, q]
theorem putC_tS {σ : TS} {t k : Nat} {l m w v : Int32} : putC (tS σ k v) t l m w = tS (putC σ t l m w) k v := rfl
/-- what is filed, tray 0 first: p t: a copy goes to tray t -/
def flC (σ : TS) (l b : Nat) (m : Int32) (p : Nat → Bool) : Nat → TS
  | 0 => σ
  | t + 1 => if p t then putC (flC σ l b m p t) (4 * b + t) (nI l) m 0 else flC σ l b m p t
theorem flC_40 {σ : TS} {l b : Nat} {m : Int32} {p : Nat → Bool} : ∀ (t u : Nat), (flC σ l b m p t).2 40 u = if (∃ j, j < t ∧ p j = true ∧ u = 4 * b + j) then σ.2 40 u + 1 else σ.2 40 u
  | 0, u => by rw [if_neg (by rintro ⟨j, h, -⟩; omega)]; rfl
  | t + 1, u => by
    rw [flC]
    by_cases hp : p t = true
    · rw [if_pos hp, putC_40]
      by_cases e : u = 4 * b + t
      · rw [if_pos e, if_pos ⟨t, by omega, hp, e⟩, e, flC_40 t, if_neg (by rintro ⟨j, h, -, h2⟩; omega)]
      · rw [if_neg e, flC_40 t]
        by_cases c : ∃ j, j < t ∧ p j = true ∧ u = 4 * b + j
        · obtain ⟨j, h1, h2, h3⟩ := id c
          rw [if_pos c, if_pos ⟨j, by omega, h2, h3⟩]
        · rw [if_neg c, if_neg (by rintro ⟨j, h1, h2, h3⟩; rcases (by omega : j < t ∨ j = t) with z | z; exact c ⟨j, z, h2, h3⟩; rw [z] at h3; exact e h3)]
    · rw [if_neg hp, flC_40 t]
      by_cases c : ∃ j, j < t ∧ p j = true ∧ u = 4 * b + j
      · obtain ⟨j, h1, h2, h3⟩ := id c
        rw [if_pos c, if_pos ⟨j, by omega, h2, h3⟩]
      · rw [if_neg c, if_neg (by rintro ⟨j, h1, h2, h3⟩; rcases (by omega : j < t ∨ j = t) with z | z; exact c ⟨j, z, h2, h3⟩; rw [z] at h2; exact hp h2)]
theorem flC_1 {σ : TS} {l b : Nat} {m : Int32} {p : Nat → Bool} : ∀ t, (flC σ l b m p t).1 = σ.1
  | 0 => rfl
  | t + 1 => by
    rw [flC]
    split
    · rw [putC_1, flC_1 t]
    · exact flC_1 t
theorem flC_7 {σ : TS} {l b : Nat} {m : Int32} {p : Nat → Bool} : ∀ t, Fr [40, 41, 42, 43] σ (flC σ l b m p t)
  | 0 => Fr.rf _ _
  | t + 1 => by
    rw [flC]
    split
    · exact (flC_7 t).trans putC_fr
    · exact flC_7 t
theorem flC_congr {σ : TS} {l b : Nat} {m : Int32} {p p' : Nat → Bool} : ∀ t, (∀ j, j < t → p j = p' j) → flC σ l b m p t = flC σ l b m p' t
  | 0, _ => rfl
  | t + 1, h => by rw [flC, flC, flC_congr t (fun j hj => h j (by omega)), h t (by omega)]
/-- tray 0 gets its copy last: the same as first -/
theorem flC_front {σ : TS} {l b : Nat} {m : Int32} {p : Nat → Bool} (h0 : p 0 = false) (hb : b < 3) (hc : ∀ u, u < 12 → ∃ n, n ≤ 290 ∧ σ.2 40 u = nI n) : ∀ t, t < 4 → flC σ l b m (fun j => if j = 0 then true else p j) (t + 1) = putC (flC σ l b m p (t + 1)) (4 * b) (nI l) m 0
  | 0, _ => by
    rw [flC, flC, flC, flC]
    simp [h0]
  | t + 1, ht => by
    rw [flC, flC_front h0 hb hc t (by omega), show flC σ l b m p (t + 1 + 1) = if p (t + 1) then putC (flC σ l b m p (t + 1)) (4 * b + (t + 1)) (nI l) m 0 else flC σ l b m p (t + 1) from rfl]
    simp only [show ¬ t + 1 = 0 by omega, ↓reduceIte]
    by_cases hp : p (t + 1) = true
    · rw [if_pos hp, if_pos hp]
      obtain ⟨n1, b1, e1⟩ := hc (4 * b) (by omega)
      obtain ⟨n2, b2, e2⟩ := hc (4 * b + (t + 1)) (by omega)
      refine putC_comm (n1 := n1) (n2 := n2) (by omega) ?_ ?_ (by omega) (by omega)
      · rw [flC_40, if_neg (by rintro ⟨j, h1, h2, h3⟩; obtain rfl : j = 0 := (by omega); rw [h0] at h2; cases h2)]
        exact e1
      · rw [flC_40, if_neg (by rintro ⟨j, h1, h2, h3⟩; omega)]
        exact e2
    · rw [if_neg hp, if_neg hp]
/-- the trays to which copies go, after t trays were looked at -/
def ptr (σ : TS) (b t : Nat) : Nat → Bool := fun j => if j = 0 then (bt (σ.1 49) 0 || (List.range t).any (fun k => decide (1 ≤ k) && bt (σ.1 49) k && decide (noneP σ b k))) else bt (σ.1 49) j && !decide (noneP σ b j)
/-- how many were crowded out -/
def ncr (σ : TS) (b : Nat) : Nat → Int32
  | 0 => 0
  | t + 1 => ncr σ b t + if 1 ≤ t ∧ bt (σ.1 49) t = true ∧ noneP σ b t then 1 else 0
/-- the reference's filing, tray by tray, is filing with tray 0 first -/
theorem flS_C {σ : TS} {l b : Nat} (hb : b < 3) (hc : ∀ u, u < 12 → ∃ n, n ≤ 290 ∧ σ.2 40 u = nI n) : ∀ t, t < 4 → ∃ x : Int32, (flS σ l b (t + 1)).1 = tS (tS (flC σ l b (σ.1 52) (ptr σ b (t + 1)) (t + 1)) 39 (σ.1 39 + ncr σ b (t + 1))) 44 x ∧ (flS σ l b (t + 1)).2 = (if ptr σ b (t + 1) 0 = true then 1 else 0)
  | 0, _ => by
    sorry
  | t + 1, ht => by
    sorry
