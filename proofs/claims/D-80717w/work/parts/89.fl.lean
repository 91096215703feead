
/-! filing: the order of the trays doesn't matter -/
theorem putC_comm {σ : TS} {t1 t2 n1 n2 : Nat} {l m w : Int32} (hne : t1 ≠ t2) (h1 : σ.2 40 t1 = nI n1) (h2 : σ.2 40 t2 = nI n2) (b1 : n1 ≤ 299) (b2 : n2 ≤ 299) : putC (putC σ t1 l m w) t2 l m w = putC (putC σ t2 l m w) t1 l m w := by
  have e1 : (putC σ t1 l m w).2 40 t2 = nI n2 := by rw [putC_40, if_neg (Ne.symm hne)]; exact h2
  have e2 : (putC σ t2 l m w).2 40 t1 = nI n1 := by rw [putC_40, if_neg hne]; exact h1
  refine Prod.ext (by rw [putC_1, putC_1, putC_1, putC_1]) ?_
  funext k
  by_cases h40 : k = 40
  · subst h40
    rw [putC_s40, putC_s40, putC_s40, putC_s40]
    funext j
    unfold upd
    by_cases c1 : j = t1 <;> by_cases c2 : j = t2
    · omega
    · simp only [c1, if_neg hne, ↓reduceIte]
    · simp only [c2, if_neg (Ne.symm hne), ↓reduceIte]
    · simp only [c1, c2, ↓reduceIte]
  · by_cases h41 : k = 41
    · subst h41
      funext j
      rw [(putC_41 (i := j) e1 b2).1, (putC_41 (i := j) h1 b1).1, (putC_41 (i := j) e2 b1).1, (putC_41 (i := j) h2 b2).1]
      split <;> split <;> rfl
    · by_cases h42 : k = 42
      · subst h42
        funext j
        rw [(putC_41 (i := j) e1 b2).2.1, (putC_41 (i := j) h1 b1).2.1, (putC_41 (i := j) e2 b1).2.1, (putC_41 (i := j) h2 b2).2.1]
        split <;> split <;> rfl
      · by_cases h43 : k = 43
        · subst h43
          funext j
          rw [(putC_41 (i := j) e1 b2).2.2, (putC_41 (i := j) h1 b1).2.2, (putC_41 (i := j) e2 b1).2.2, (putC_41 (i := j) h2 b2).2.2]
          split <;> split <;> rfl
        · have q : ∀ (σ : TS) (t : Nat), (putC σ t l m w).2 k = σ.2 k := fun σ t => by
            unfold putC
            simp only [tA_2, if_neg h40, if_neg h41, if_neg h42, if_neg h43]
          rw [q, q, q, q]
theorem putC_tS {σ : TS} {t k : Nat} {l m w v : Int32} : putC (tS σ k v) t l m w = tS (putC σ t l m w) k v := rfl
/-- what is filed, tray 0 first: p t: a copy goes to tray t -/
def flC (σ : TS) (l b : Nat) (m : Int32) (p : Nat → Bool) : Nat → TS
  | 0 => σ
  | t + 1 => if p t then putC (flC σ l b m p t) (4 * b + t) (nI l) m 0 else flC σ l b m p t
theorem flC_40 {σ : TS} {l b : Nat} {m : Int32} {p : Nat → Bool} : ∀ (t u : Nat), (flC σ l b m p t).2 40 u = if (∃ j, j < t ∧ p j = true ∧ u = 4 * b + j) then σ.2 40 u + 1 else σ.2 40 u
  | 0, u => by rw [if_neg (by rintro ⟨j, h, -⟩; omega)]; rfl
  | t + 1, u => by
    rw [flC]
    by_cases hp : p t = true
    · rw [if_pos hp, putC_40]
      by_cases e : u = 4 * b + t
      · rw [if_pos e, if_pos ⟨t, by omega, hp, e⟩, e, flC_40 t, if_neg (by rintro ⟨j, h, -, h2⟩; omega)]
      · rw [if_neg e, flC_40 t]
        by_cases c : ∃ j, j < t ∧ p j = true ∧ u = 4 * b + j
        · obtain ⟨j, h1, h2, h3⟩ := id c
          rw [if_pos c, if_pos ⟨j, by omega, h2, h3⟩]
        · rw [if_neg c, if_neg (by rintro ⟨j, h1, h2, h3⟩; rcases (by omega : j < t ∨ j = t) with z | z; exact c ⟨j, z, h2, h3⟩; rw [z] at h3; exact e h3)]
    · rw [if_neg hp, flC_40 t]
      by_cases c : ∃ j, j < t ∧ p j = true ∧ u = 4 * b + j
      · obtain ⟨j, h1, h2, h3⟩ := id c
        rw [if_pos c, if_pos ⟨j, by omega, h2, h3⟩]
      · rw [if_neg c, if_neg (by rintro ⟨j, h1, h2, h3⟩; rcases (by omega : j < t ∨ j = t) with z | z; exact c ⟨j, z, h2, h3⟩; rw [z] at h2; exact hp h2)]
theorem flC_1 {σ : TS} {l b : Nat} {m : Int32} {p : Nat → Bool} : ∀ t, (flC σ l b m p t).1 = σ.1
  | 0 => rfl
  | t + 1 => by
    rw [flC]
    split
    · rw [putC_1, flC_1 t]
    · exact flC_1 t
theorem flC_7 {σ : TS} {l b : Nat} {m : Int32} {p : Nat → Bool} : ∀ t, Fr [40, 41, 42, 43] σ (flC σ l b m p t)
  | 0 => Fr.rf _ _
  | t + 1 => by
    rw [flC]
    split
    · exact (flC_7 t).trans putC_fr
    · exact flC_7 t
theorem flC_congr {σ : TS} {l b : Nat} {m : Int32} {p p' : Nat → Bool} : ∀ t, (∀ j, j < t → p j = p' j) → flC σ l b m p t = flC σ l b m p' t
  | 0, _ => rfl
  | t + 1, h => by rw [flC, flC, flC_congr t (fun j hj => h j (by omega)), h t (by omega)]
/-- tray 0 gets its copy last: the same as first -/
theorem flC_front {σ : TS} {l b : Nat} {m : Int32} {p : Nat → Bool} (h0 : p 0 = false) (hb : b < 3) (hc : ∀ u, u < 12 → ∃ n, n ≤ 290 ∧ σ.2 40 u = nI n) : ∀ t, t < 4 → flC σ l b m (fun j => if j = 0 then true else p j) (t + 1) = putC (flC σ l b m p (t + 1)) (4 * b) (nI l) m 0
  | 0, _ => by
    rw [flC, flC, flC, flC]
    simp [h0]
  | t + 1, ht => by
    rw [flC, flC_front h0 hb hc t (by omega), show flC σ l b m p (t + 1 + 1) = if p (t + 1) then putC (flC σ l b m p (t + 1)) (4 * b + (t + 1)) (nI l) m 0 else flC σ l b m p (t + 1) from rfl]
    simp only [show ¬ t + 1 = 0 by omega, ↓reduceIte]
    by_cases hp : p (t + 1) = true
    · rw [if_pos hp, if_pos hp]
      obtain ⟨n1, b1, e1⟩ := hc (4 * b) (by omega)
      obtain ⟨n2, b2, e2⟩ := hc (4 * b + (t + 1)) (by omega)
      refine putC_comm (n1 := n1) (n2 := n2) (by omega) ?_ ?_ (by omega) (by omega)
      · rw [flC_40, if_neg (by rintro ⟨j, h1, h2, h3⟩; obtain rfl : j = 0 := (by omega); rw [h0] at h2; cases h2)]
        exact e1
      · rw [flC_40, if_neg (by rintro ⟨j, h1, h2, h3⟩; omega)]
        exact e2
    · rw [if_neg hp, if_neg hp]
/-- the trays to which copies go, after t trays were looked at -/
def ptr (σ : TS) (b t : Nat) : Nat → Bool := fun j => if j = 0 then (bt (σ.1 49) 0 || (List.range t).any (fun k => decide (1 ≤ k) && bt (σ.1 49) k && decide (noneP σ b k))) else bt (σ.1 49) j && !decide (noneP σ b j)
/-- how many were crowded out -/
def ncr (σ : TS) (b : Nat) : Nat → Int32
  | 0 => 0
  | t + 1 => ncr σ b t + if 1 ≤ t ∧ bt (σ.1 49) t = true ∧ noneP σ b t then 1 else 0
def cntC (p : Nat → Bool) : Nat → Int32
  | 0 => 0
  | t + 1 => cntC p t + if p t then 1 else 0
theorem cntC_congr {p p' : Nat → Bool} : ∀ t, (∀ j, j < t → p j = p' j) → cntC p t = cntC p' t
  | 0, _ => rfl
  | t + 1, h => by rw [cntC, cntC, cntC_congr t (fun j hj => h j (by omega)), h t (by omega)]
theorem cntC_front {p : Nat → Bool} (h0 : p 0 = false) : ∀ t, cntC (fun j => if j = 0 then true else p j) (t + 1) = cntC p (t + 1) + 1
  | 0 => by
    rw [cntC, cntC, cntC, cntC]
    simp [h0]
  | t + 1 => by
    rw [cntC, cntC_front h0 t, show cntC p (t + 1 + 1) = cntC p (t + 1) + (if p (t + 1) then 1 else 0) from rfl]
    simp only [show ¬ t + 1 = 0 by omega, ↓reduceIte]
    rw [Int32.add_assoc, Int32.add_assoc, Int32.add_comm 1]
theorem tS_self {σ : TS} {k : Nat} : tS σ k (σ.1 k) = σ := by
  unfold tS
  refine Prod.ext ?_ rfl
  funext j
  unfold upd
  by_cases hj : j = k <;> simp [hj]
theorem bit_bt {x : Int32} {p : Nat} (hp : p < 32) : ((x >>> (nI p &&& 31)) &&& 1 = 1) = (bt x p = true) := propext (bit_1 hp)
theorem ptr_0 {σ : TS} {b t : Nat} : ptr σ b (t + 1) 0 = (ptr σ b t 0 || (decide (1 ≤ t) && bt (σ.1 49) t && decide (noneP σ b t))) := by
  unfold ptr
  simp only [↓reduceIte]
  rw [List.range_succ, List.any_append, List.any_cons, List.any_nil, Bool.or_false, Bool.or_assoc]
theorem ptr_s {σ : TS} {b t t' j : Nat} (hj : ¬ j = 0) : ptr σ b t j = ptr σ b t' j := by
  unfold ptr
  rw [if_neg hj, if_neg hj]
theorem tS3 {F : TS} {x y z : Int32} : tS (tS (tS F 39 x) 44 y) 39 z = tS (tS F 39 z) 44 y := by
  refine Prod.ext ?_ rfl
  funext j
  simp only [tS_1]
  by_cases h1 : j = 39
  · subst h1; rfl
  · simp only [h1, ↓reduceIte]
theorem tS4 {F : TS} {x y z w : Int32} : tS (tS (tS (tS F 39 x) 44 y) 39 z) 44 w = tS (tS F 39 z) 44 w := by
  rw [tS3]
  refine Prod.ext ?_ rfl
  funext j
  simp only [tS_1]
  by_cases h1 : j = 44
  · subst h1; rfl
  · simp only [h1, ↓reduceIte]
/-- the reference's filing, tray by tray, is filing with tray 0 first -/
theorem flS_C {σ : TS} {l b : Nat} (hb : b < 3) (hc : ∀ u, u < 12 → ∃ n, n ≤ 290 ∧ σ.2 40 u = nI n) : ∀ t, t < 4 → (flS σ l b (t + 1)).1 = tS (tS (flC σ l b (σ.1 52) (ptr σ b (t + 1)) (t + 1)) 39 (σ.1 39 + ncr σ b (t + 1))) 44 (σ.1 44 + cntC (ptr σ b (t + 1)) (t + 1)) ∧ (flS σ l b (t + 1)).2 = (if ptr σ b (t + 1) 0 = true then 1 else 0)
  | 0, _ => by
    have e0 : ptr σ b 1 0 = bt (σ.1 49) 0 := by
      rw [ptr_0]
      unfold ptr
      simp
    rw [flS, flS, flT, flC, flC, ncr, ncr, cntC, cntC, e0]
    have hn3 : ¬ (1 ≤ 0 ∧ bt (σ.1 49) 0 = true ∧ noneP σ b 0) := fun z => absurd z.1 (by omega)
    by_cases h0 : bt (σ.1 49) 0 = true
    · rw [if_pos ((bit_1 (by decide)).mpr h0), if_neg (fun z => absurd z.1 (Nat.lt_irrefl 0)), if_neg hn3]
      simp only [h0, ↓reduceIte, Int32.zero_add, Int32.add_zero, or_true]
      exact ⟨rfl, trivial⟩
    · rw [if_neg (fun z => h0 ((bit_1 (by decide)).mp z)), if_neg hn3]
      simp only [h0, Bool.false_eq_true, ↓reduceIte, Int32.zero_add, Int32.add_zero]
      refine ⟨?_, trivial⟩
      rw [tS_self]
      exact tS_self.symm
  | t + 1, ht => by
    obtain ⟨i1, i2⟩ := flS_C (l := l) hb hc t (by omega)
    rw [flS, i2, i1]
    have eF1 := flC_1 (σ := σ) (l := l) (b := b) (m := σ.1 52) (p := ptr σ b (t + 1)) (t + 1)
    have eF7 := (flC_7 (σ := σ) (l := l) (b := b) (m := σ.1 52) (p := ptr σ b (t + 1)) (t + 1) 7 rfl).2
    have eF40 : (flC σ l b (σ.1 52) (ptr σ b (t + 1)) (t + 1)).2 40 (4 * b + (t + 1)) = σ.2 40 (4 * b + (t + 1)) := by
      rw [flC_40, if_neg (by rintro ⟨j, h1, h2, h3⟩; omega)]
    generalize hF : flC σ l b (σ.1 52) (ptr σ b (t + 1)) (t + 1) = F at eF1 eF7 eF40
    have hnone : noneP (tS (tS F 39 (σ.1 39 + ncr σ b (t + 1))) 44 (σ.1 44 + cntC (ptr σ b (t + 1)) (t + 1))) b (t + 1) ↔ noneP σ b (t + 1) := by
      show (0 < t + 1 ∧ ¬ (F.2 40 (4 * b + (t + 1))).toInt < (F.2 7 (4 * b + (t + 1))).toInt) ↔ _
      rw [eF40, eF7]
    have e49 : (tS (tS F 39 (σ.1 39 + ncr σ b (t + 1))) 44 (σ.1 44 + cntC (ptr σ b (t + 1)) (t + 1))).1 49 = σ.1 49 := by rw [← eF1]; rfl
    have hsame : ptr σ b (t + 2) 0 = ptr σ b (t + 1) 0 → flC σ l b (σ.1 52) (ptr σ b (t + 2)) (t + 1) = F ∧ cntC (ptr σ b (t + 2)) (t + 1) = cntC (ptr σ b (t + 1)) (t + 1) := fun h => by
      have hj : ∀ j, j < t + 1 → ptr σ b (t + 2) j = ptr σ b (t + 1) j := fun j _ => by
        by_cases e : j = 0
        · rw [e, h]
        · exact ptr_s e
      exact ⟨(flC_congr _ hj).trans hF, cntC_congr _ hj⟩
    have ept : ptr σ b (t + 2) (t + 1) = (bt (σ.1 49) (t + 1) && !decide (noneP σ b (t + 1))) := by
      unfold ptr
      rw [if_neg (by omega)]
    have ep0 := ptr_0 (σ := σ) (b := b) (t := t + 1)
    rw [flT, e49]
    rw [show flC σ l b (σ.1 52) (ptr σ b (t + 1 + 1)) (t + 1 + 1) = if ptr σ b (t + 2) (t + 1) then putC (flC σ l b (σ.1 52) (ptr σ b (t + 2)) (t + 1)) (4 * b + (t + 1)) (nI l) (σ.1 52) 0 else flC σ l b (σ.1 52) (ptr σ b (t + 2)) (t + 1) from rfl, show cntC (ptr σ b (t + 1 + 1)) (t + 1 + 1) = cntC (ptr σ b (t + 2)) (t + 1) + (if ptr σ b (t + 2) (t + 1) then 1 else 0) from rfl, show ncr σ b (t + 1 + 1) = ncr σ b (t + 1) + (if 1 ≤ t + 1 ∧ bt (σ.1 49) (t + 1) = true ∧ noneP σ b (t + 1) then 1 else 0) from rfl]
    by_cases hbit : bt (σ.1 49) (t + 1) = true
    · rw [if_pos ((bit_1 (by omega)).mpr hbit)]
      by_cases hno : noneP σ b (t + 1)
      · rw [if_pos (hnone.mpr hno)]
        have ept' : ptr σ b (t + 2) (t + 1) = false := by rw [ept, hbit, decide_eq_true hno]; rfl
        have h0 : ptr σ b (t + 2) 0 = true := by rw [show ptr σ b (t + 2) 0 = _ from ep0, hbit, decide_eq_true hno]; simp
        have h0' : ptr σ b (t + 1 + 1) 0 = true := h0
        have hn3 : 1 ≤ t + 1 ∧ bt (σ.1 49) (t + 1) = true ∧ noneP σ b (t + 1) := ⟨by omega, hbit, hno⟩
        by_cases hp0 : ptr σ b (t + 1) 0 = true
        · obtain ⟨q1, q2⟩ := hsame (h0.trans hp0.symm)
          simp only [ept', q1, q2, h0', hp0, if_pos hn3, Bool.false_eq_true, ↓reduceIte, Int32.add_zero]
          refine ⟨?_, rfl⟩
          show tS (tS (tS F 39 _) 44 _) 39 ((σ.1 39 + ncr σ b (t + 1)) + 1) = _
          rw [tS3, Int32.add_assoc]
        · have hpf : ptr σ b (t + 1) 0 = false := by cases h : ptr σ b (t + 1) 0; rfl; exact absurd h hp0
          have hfr : flC σ l b (σ.1 52) (ptr σ b (t + 2)) (t + 1) = putC F (4 * b) (nI l) (σ.1 52) 0 := by
            rw [← hF, ← flC_front hpf hb hc t (by omega)]
            refine flC_congr _ (fun j hj => ?_)
            by_cases e : j = 0
            · rw [e, h0]; rfl
            · show _ = if j = 0 then true else ptr σ b (t + 1) j
              rw [if_neg e]; exact ptr_s e
          have hcn : cntC (ptr σ b (t + 2)) (t + 1) = cntC (ptr σ b (t + 1)) (t + 1) + 1 := by
            rw [← cntC_front hpf t]
            refine cntC_congr _ (fun j hj => ?_)
            by_cases e : j = 0
            · rw [e, h0]; rfl
            · show _ = if j = 0 then true else ptr σ b (t + 1) j
              rw [if_neg e]; exact ptr_s e
          simp only [ept', hfr, hcn, h0', hpf, if_pos hn3, Bool.false_eq_true, ↓reduceIte, Int32.add_zero]
          refine ⟨?_, trivial⟩
          show tS (putC (tS (tS (tS F 39 _) 44 _) 39 ((σ.1 39 + ncr σ b (t + 1)) + 1)) (4 * b) (nI l) (F.1 52) 0) 44 ((σ.1 44 + cntC (ptr σ b (t + 1)) (t + 1)) + 1) = _
          rw [putC_tS, putC_tS, putC_tS, tS4, eF1, Int32.add_assoc, Int32.add_assoc]
      · rw [if_neg (fun z => hno (hnone.mp z))]
        have ept' : ptr σ b (t + 2) (t + 1) = true := by rw [ept, hbit, decide_eq_false hno]; rfl
        have h0 : ptr σ b (t + 2) 0 = ptr σ b (t + 1) 0 := by rw [show ptr σ b (t + 2) 0 = _ from ep0, decide_eq_false hno]; simp
        have h0' : ptr σ b (t + 1 + 1) 0 = ptr σ b (t + 1) 0 := h0
        have hn3 : ¬ (1 ≤ t + 1 ∧ bt (σ.1 49) (t + 1) = true ∧ noneP σ b (t + 1)) := fun z => hno z.2.2
        obtain ⟨q1, q2⟩ := hsame h0
        simp only [ept', q1, q2, h0', if_neg hn3, ↓reduceIte, Int32.add_zero]
        refine ⟨?_, ?_⟩
        · show tS (putC (tS (tS (tS F 39 _) 44 _) 39 ((σ.1 39 + ncr σ b (t + 1)))) (4 * b + (t + 1)) (nI l) (F.1 52) 0) 44 ((σ.1 44 + cntC (ptr σ b (t + 1)) (t + 1)) + 1) = _
          rw [putC_tS, putC_tS, putC_tS, tS4, eF1, Int32.add_assoc]
        · by_cases hp0 : ptr σ b (t + 1) 0 = true
          · simp [hp0]
          · simp [hp0]
    · rw [if_neg (fun z => hbit ((bit_1 (by omega)).mp z))]
      have e1 : bt (σ.1 49) (t + 1) = false := by cases h : bt (σ.1 49) (t + 1); rfl; exact absurd h hbit
      have ept' : ptr σ b (t + 2) (t + 1) = false := by rw [ept, e1]; rfl
      have h0 : ptr σ b (t + 2) 0 = ptr σ b (t + 1) 0 := by rw [show ptr σ b (t + 2) 0 = _ from ep0, e1]; simp
      have h0' : ptr σ b (t + 1 + 1) 0 = ptr σ b (t + 1) 0 := h0
      have hn3 : ¬ (1 ≤ t + 1 ∧ bt (σ.1 49) (t + 1) = true ∧ noneP σ b (t + 1)) := fun z => hbit z.2.1
      obtain ⟨q1, q2⟩ := hsame h0
      simp only [ept', q1, q2, h0', if_neg hn3, Bool.false_eq_true, ↓reduceIte, Int32.add_zero]
      exact ⟨trivial, trivial⟩
