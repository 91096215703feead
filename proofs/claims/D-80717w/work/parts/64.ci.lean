
/-! THE COMPONENT's STATE: how its heap s stands to numbers σ in the reference's form -/
theorem Lst.kp {E : gE} {P : Nat → Prop} {s s' : CSt} {a ar n : Nat} {e : Nat → Nat} (h : Lst E s a ar n e) (hk : Kp P s s') (ha : ¬ P a) (hr : ar = E.2 20 ∨ ¬ P ar) : Lst E s' a ar n e := by
  obtain ⟨h1, ⟨m, h2⟩, h3, h4, h5⟩ := h
  have ka := hk a (by omega) ha
  refine ⟨ka.1.trans h1, ⟨m, (ka.2.1 0).trans h2⟩, (ka.2.1 1).trans h3, (ka.2.1 2).trans h4, ?_⟩
  rcases h5 with h5 | ⟨g1, g2, g3, g4, g5, g6⟩
  · exact Or.inl h5
  · have kr := hk ar (by omega) (by rcases hr with z | z; exact absurd z g6; exact z)
    exact Or.inr ⟨kr.1.trans g1, by rw [kr.2.2.2.2]; exact g2, by rw [kr.2.2.2.2]; exact g3, by rw [kr.2.2.2.2]; exact g4, fun i hi => (kr.2.2.2.1 i).trans (g5 i hi), g6⟩
/-! rules: tests stand for their codes -/
def ksg (k : Nat) : Int32 := [102, 116, 119, 62, 108, 97, 106, 100, 114].getD k 0
/-- an atom's object: its code, its place among the unlike ones -/
def AtA (Z : Nat → Prop) (s : CSt) (a p : Nat) (c : Int32) : Prop := Z a ∧ s.1 a = 12 ∧ ∃ k n : Nat, k < 9 ∧ n < 1000000 ∧ c = nI (1000000 * k + n) ∧ s.2.1 a 0 = .int (ksg k) ∧ s.2.1 a 1 = .int (nI n) ∧ s.2.1 a 2 = .int (nI p)
def TeA (Z : Nat → Prop) (s : CSt) (al : List Int32) : Nat → Nat → List Int32 → Prop
  | 0, _, _ => False
  | f + 1, te, l => Z te ∧ ((l = [9000000] ∧ s.1 te = 18) ∨ (∃ (p : Nat) (c : Int32), l = [c] ∧ al[p]? = some c ∧ AtA Z s te p c) ∨ (∃ (l1 : List Int32) (t1 : Nat), l = l1 ++ [10000000] ∧ s.1 te = 11 ∧ s.2.1 te 0 = .ref t1 ∧ TeA Z s al f t1 l1)
    ∨ (∃ (l1 l2 : List Int32) (t1 t2 : Nat), l = l1 ++ (l2 ++ [11000000]) ∧ s.1 te = 13 ∧ s.2.1 te 0 = .ref t1 ∧ s.2.1 te 1 = .ref t2 ∧ TeA Z s al f t1 l1 ∧ TeA Z s al f t2 l2)
    ∨ (∃ (l1 l2 : List Int32) (t1 t2 : Nat), l = l1 ++ (l2 ++ [12000000]) ∧ s.1 te = 14 ∧ s.2.1 te 0 = .ref t1 ∧ s.2.1 te 1 = .ref t2 ∧ TeA Z s al f t1 l1 ∧ TeA Z s al f t2 l2))
/-- an act: its sign and its number -/
def acA (x y c : Int32) : Prop := (x = 70 ∧ 0 ≤ c.toInt ∧ c.toInt ≤ 3 ∧ y = c) ∨ (x = 75 ∧ c = 0) ∨ (x = 71 ∧ 4 ≤ c.toInt ∧ c.toInt ≤ 6 ∧ y = c - 4) ∨ (x = 88 ∧ c = 7) ∨ (x = 86 ∧ c = 8) ∨ (x = 77 ∧ c = 9) ∨ (x = 83 ∧ c = 10)
def RlA (Z : Nat → Prop) (s : CSt) (al : List Int32) (r : Nat) (q : List Int32 × List Int32) : Prop := Z r ∧ s.1 r = 10 ∧ ∃ te a1 a2 : Nat, s.2.1 r 0 = .ref te ∧ s.2.1 r 1 = .ref a1 ∧ s.2.1 r 2 = .ref a2 ∧ s.2.1 r 3 = .int (nI q.2.length) ∧ q.2.length ≤ 4 ∧ (∃ f, f ≤ 200 ∧ TeA Z s al f te q.1) ∧ Z a1 ∧ Z a2 ∧ s.1 a1 = 30 ∧ s.2.2.2.2 a1 = 4 ∧ s.1 a2 = 30 ∧ s.2.2.2.2 a2 = 4 ∧ ∀ (i : Nat) (c : Int32), q.2[i]? = some c → acA (s.2.2.1 a1 i) (s.2.2.1 a2 i) c
def RuA (E : gE) (Z : Nat → Prop) (s : CSt) (a : Nat) (R : Rl) (e1 : Nat → Nat) : Prop := Z a ∧ s.1 a = 6 ∧ ∃ (l1 l2 a1 a2 : Nat) (e2 : Nat → Nat), s.2.1 a 0 = .ref l1 ∧ s.2.1 a 1 = .ref l2 ∧ Z l1 ∧ Z l2 ∧ (a1 = E.2 20 ∨ Z a1) ∧ (a2 = E.2 20 ∨ Z a2) ∧ Lst E s l1 a1 R.length e1 ∧ Lst E s l2 a2 (gth (allC R) []).length e2 ∧ (∀ (k : Nat) (q : List Int32 × List Int32), R[k]? = some q → RlA Z s (gth (allC R) []) (e1 k) q) ∧ ∀ (k : Nat) (c : Int32), (gth (allC R) [])[k]? = some c → AtA Z s (e2 k) k c
section KPR
variable {E : gE} {P Z Z' : Nat → Prop} {s s' : CSt}
theorem AtA.kp (hk : Kp P s s') (hZ : ∀ b, Z b → ¬ P b) (hZ' : ∀ b, Z b → Z' b) {a p : Nat} {c : Int32} (h : AtA Z s a p c) : AtA Z' s' a p c := by
  obtain ⟨h1, h2, k, n, h3, h4, h5, h6, h7, h8⟩ := h
  have ka := hk a (by omega) (hZ a h1)
  exact ⟨hZ' a h1, ka.1.trans h2, k, n, h3, h4, h5, (ka.2.1 0).trans h6, (ka.2.1 1).trans h7, (ka.2.1 2).trans h8⟩
theorem TeA.kp (hk : Kp P s s') (hZ : ∀ b, Z b → ¬ P b) (hZ' : ∀ b, Z b → Z' b) {al : List Int32} : ∀ (f te : Nat) (l : List Int32), TeA Z s al f te l → TeA Z' s' al f te l
  | 0, _, _, h => h
  | f + 1, te, l, h => by
    obtain ⟨h1, h2⟩ := h
    refine ⟨hZ' te h1, ?_⟩
    have ka : s.1 te ≠ 0 → _ := fun hn => hk te hn (hZ te h1)
    rcases h2 with ⟨g1, g2⟩ | ⟨p, c, g1, g2, g3⟩ | ⟨l1, t1, g1, g2, g3, g4⟩ | ⟨l1, l2, t1, t2, g1, g2, g3, g4, g5, g6⟩ | ⟨l1, l2, t1, t2, g1, g2, g3, g4, g5, g6⟩
    · exact Or.inl ⟨g1, (ka (by omega)).1.trans g2⟩
    · exact Or.inr (Or.inl ⟨p, c, g1, g2, g3.kp hk hZ hZ'⟩)
    · have k1 := ka (by omega)
      exact Or.inr (Or.inr (Or.inl ⟨l1, t1, g1, k1.1.trans g2, (k1.2.1 0).trans g3, TeA.kp hk hZ hZ' f t1 l1 g4⟩))
    · have k1 := ka (by omega)
      exact Or.inr (Or.inr (Or.inr (Or.inl ⟨l1, l2, t1, t2, g1, k1.1.trans g2, (k1.2.1 0).trans g3, (k1.2.1 1).trans g4, TeA.kp hk hZ hZ' f t1 l1 g5, TeA.kp hk hZ hZ' f t2 l2 g6⟩)))
    · have k1 := ka (by omega)
      exact Or.inr (Or.inr (Or.inr (Or.inr ⟨l1, l2, t1, t2, g1, k1.1.trans g2, (k1.2.1 0).trans g3, (k1.2.1 1).trans g4, TeA.kp hk hZ hZ' f t1 l1 g5, TeA.kp hk hZ hZ' f t2 l2 g6⟩)))
theorem RlA.kp (hk : Kp P s s') (hZ : ∀ b, Z b → ¬ P b) (hZ' : ∀ b, Z b → Z' b) {al : List Int32} {r : Nat} {q : List Int32 × List Int32} (h : RlA Z s al r q) : RlA Z' s' al r q := by
  obtain ⟨h1, h2, te, a1, a2, g1, g2, g3, g4, g5, ⟨f, g6, g7⟩, g8, g9, g10, g11, g12, g13, g14⟩ := h
  have kr := hk r (by omega) (hZ r h1)
  have k1 := hk a1 (by omega) (hZ a1 g8)
  have k2 := hk a2 (by omega) (hZ a2 g9)
  exact ⟨hZ' r h1, kr.1.trans h2, te, a1, a2, (kr.2.1 0).trans g1, (kr.2.1 1).trans g2, (kr.2.1 2).trans g3, (kr.2.1 3).trans g4, g5, ⟨f, g6, TeA.kp hk hZ hZ' f te q.1 g7⟩, hZ' a1 g8, hZ' a2 g9, k1.1.trans g10, k1.2.2.2.2.trans g11, k2.1.trans g12, k2.2.2.2.2.trans g13, fun i c hc => by rw [k1.2.2.1 i, k2.2.2.1 i]; exact g14 i c hc⟩
theorem RuA.kp (hk : Kp P s s') (hZ : ∀ b, Z b → ¬ P b) (hZ' : ∀ b, Z b → Z' b) {a : Nat} {R : Rl} {e1 : Nat → Nat} (h : RuA E Z s a R e1) : RuA E Z' s' a R e1 := by
  obtain ⟨h1, h2, l1, l2, a1, a2, e2, g1, g2, g3, g4, g5, g6, g7, g8, g9, g10⟩ := h
  have ka := hk a (by omega) (hZ a h1)
  exact ⟨hZ' a h1, ka.1.trans h2, l1, l2, a1, a2, e2, (ka.2.1 0).trans g1, (ka.2.1 1).trans g2, hZ' l1 g3, hZ' l2 g4, g5.imp id (hZ' a1), g6.imp id (hZ' a2), g7.kp hk (hZ l1 g3) (g5.imp id (hZ a1)), g8.kp hk (hZ l2 g4) (g6.imp id (hZ a2)), fun k q hq => (g9 k q hq).kp hk hZ hZ', fun k c hc => (g10 k c hc).kp hk hZ hZ'⟩
end KPR
/-! what is made once and stays: places L r, r < 51 -/
def kst (r : Nat) : Nat := [2, 17, 3, 32, 46, 4, 4, 4, 47, 47, 47, 5, 5, 5, 5, 5, 5, 5, 5, 5, 5, 5, 5, 17, 17, 17, 17, 17, 17, 17, 17, 17, 17, 17, 17, 31, 31, 31, 30, 30, 30, 45, 30, 30, 7, 30, 30, 8, 48, 9, 9].getD r 0
def nst (r : Nat) : Nat := [0, 0, 0, 90, 3, 0, 0, 0, 4, 4, 4, 0, 0, 0, 0, 0, 0, 0, 0, 0, 0, 0, 0, 0, 0, 0, 0, 0, 0, 0, 0, 0, 0, 0, 0, 10300, 10300, 10300, 16, 16, 16, 64, 64, 64, 0, 2, 24, 0, 2, 0, 0].getD r 0
/-- fields that stay: of the object at L r, field k is the reference L of this, if it is some -/
def fst (r k : Nat) : Option Nat :=
  if r = 0 then [some 1, some 2, some 3, none, none, none, none, some 4, some 41, some 42, some 43, none, none, none, none, none, none, some 44, some 45, some 46, some 47, some 48].getD k none
  else if 5 ≤ r ∧ r < 8 then [none, some (r + 3), some (r + 30), some (r + 33)].getD k none
  else if 11 ≤ r ∧ r < 23 then [some (r + 12)].getD k none
  else if r = 44 then [some 0].getD k none
  else none
/-- elements that stay -/
def est (r i : Nat) : Option Nat := if r = 4 then (if i < 3 then some (5 + i) else none) else if 8 ≤ r ∧ r < 11 then (if i < 4 then some (11 + 4 * (r - 8) + i) else none) else if r = 48 then (if i < 2 then some (49 + i) else none) else none
def Sc (L : Nat → Nat) (s : CSt) : Prop := (∀ r r' : Nat, r < 51 → r' < 51 → L r = L r' → r = r') ∧ (∀ r, r < 51 → s.1 (L r) = kst r) ∧ (∀ r, r < 51 → 30 ≤ kst r → s.2.2.2.2 (L r) = nst r) ∧ (∀ r k r', r < 51 → fst r k = some r' → s.2.1 (L r) k = .ref (L r')) ∧ (∀ b, b < 3 → s.2.1 (L (5 + b)) 0 = .int (nI b)) ∧ ∀ r i r', r < 51 → est r i = some r' → s.2.2.2.1 (L r) i = some (L r')
/-- the ghost: letters' addresses, copies' addresses, arrays of lists (0 letters, 1 + t trays), rules' addresses, rows of sheets, what is frozen, the rules, how many letters, how many copies, the rules' objects -/
abbrev Gh : Type := (Nat → Nat) × (Nat → Nat → Nat) × (Nat → Nat) × (Nat → Nat) × (Nat → Nat) × (Nat → Prop) × (Nat → Rl) × Nat × (Nat → Nat) × (Nat → Nat → Nat)
abbrev vL (γ : Gh) : Nat → Nat := γ.1
abbrev vC (γ : Gh) : Nat → Nat → Nat := γ.2.1
abbrev vA (γ : Gh) : Nat → Nat := γ.2.2.1
abbrev vR (γ : Gh) : Nat → Nat := γ.2.2.2.1
abbrev vS (γ : Gh) : Nat → Nat := γ.2.2.2.2.1
abbrev vZ (γ : Gh) : Nat → Prop := γ.2.2.2.2.2.1
abbrev vQ (γ : Gh) : Nat → Rl := γ.2.2.2.2.2.2.1
abbrev vN (γ : Gh) : Nat := γ.2.2.2.2.2.2.2.1
abbrev vT (γ : Gh) : Nat → Nat := γ.2.2.2.2.2.2.2.2.1
abbrev vE (γ : Gh) : Nat → Nat → Nat := γ.2.2.2.2.2.2.2.2.2
def ans (v : Int32) : Int32 := if v = -1000 then -1 else v
def cP (L : Nat → Nat) (σ : TS) (c : Int32) (s : CSt) : Prop := s.2.1 (L 0) 3 = .int (σ.1 1) ∧ (∃ x : Int32, s.2.1 (L 0) 4 = .int x) ∧ (∃ x : Int32, s.2.1 (L 0) 5 = .int x) ∧ (∃ x : Int32, s.2.1 (L 0) 11 = .int x) ∧ s.2.1 (L 0) 12 = .int c ∧ s.2.1 (L 0) 13 = .int (σ.1 36) ∧ s.2.1 (L 0) 14 = .int (σ.1 37) ∧ s.2.1 (L 0) 15 = .int (σ.1 38) ∧ s.2.1 (L 0) 16 = .int (σ.1 39) ∧ ∀ i, i < 90 → s.2.2.1 (L 3) i = σ.2 0 i
/-- a letter's object -/
def LtA (γ : Gh) (σ : TS) (s : CSt) (k : Nat) : Prop := s.1 (vL γ k) = 15 ∧ vZ γ (vL γ k) ∧ s.2.1 (vL γ k) 0 = .int (nI k) ∧ ∀ j, 1 ≤ j → j < 9 → s.2.1 (vL γ k) j = .int (σ.2 (25 + j) k)
def cL (E : gE) (L : Nat → Nat) (γ : Gh) (σ : TS) (s : CSt) : Prop := σ.1 25 = nI (vN γ) ∧ vN γ ≤ 209 ∧ Lst E s (L 1) (vA γ 0) (vN γ) (vL γ) ∧ ∀ k, k < vN γ → LtA γ σ s k
def cB (L : Nat → Nat) (γ : Gh) (σ : TS) (s : CSt) : Prop := ∀ b, b < 3 → s.2.1 (L (5 + b)) 4 = .int (σ.2 8 b) ∧ s.2.1 (L (5 + b)) 5 = .ref (vR γ b) ∧ (∀ j, j < 10210 → s.2.2.1 (L (35 + b)) j = σ.2 34 (10210 * b + j)) ∧ ∀ k, k < 16 → s.2.2.1 (L (38 + b)) k = ans (σ.2 35 (16 * b + k))
/-- a copy's object -/
def CpA (γ : Gh) (σ : TS) (s : CSt) (t i : Nat) : Prop := s.1 (vC γ t i) = 16 ∧ ∃ l, l < vN γ ∧ σ.2 41 (300 * t + i) = nI l ∧ s.2.1 (vC γ t i) 0 = .ref (vL γ l) ∧ s.2.1 (vC γ t i) 1 = .int (σ.2 42 (300 * t + i)) ∧ s.2.1 (vC γ t i) 2 = .int (σ.2 43 (300 * t + i))
def cT (E : gE) (L : Nat → Nat) (γ : Gh) (σ : TS) (s : CSt) : Prop := ∀ t, t < 12 → s.2.1 (L (11 + t)) 1 = .int (σ.2 7 t) ∧ σ.2 40 t = nI (vT γ t) ∧ vT γ t ≤ 299 ∧ Lst E s (L (23 + t)) (vA γ (1 + t)) (vT γ t) (vC γ t) ∧ ∀ i, i < vT γ t → CpA γ σ s t i
def cK (L : Nat → Nat) (σ : TS) (s : CSt) : Prop := (∀ k, k < 2 → s.2.2.1 (L 45) k = σ.2 57 k) ∧ ∀ k, k < 24 → s.2.2.1 (L 46) k = σ.2 58 k
/-- a sheet's row -/
def ShA (L : Nat → Nat) (γ : Gh) (σ : TS) (s : CSt) (i : Nat) : Prop := (σ.2 54 i = -1 ∧ s.2.1 (L (49 + i)) 0 = .null) ∨ ((σ.2 54 i = 0 ∨ σ.2 54 i = 1) ∧ s.2.1 (L (49 + i)) 0 = .ref (vS γ i) ∧ s.1 (vS γ i) = (if σ.2 54 i = 0 then 33 else 30) ∧ σ.2 55 i = nI (s.2.2.2.2 (vS γ i)) ∧ s.2.2.2.2 (vS γ i) ≤ 40 ∧ (∀ j, j < s.2.2.2.2 (vS γ i) → s.2.2.1 (vS γ i) j = σ.2 56 (40 * i + j)) ∧ ¬ vZ γ (vS γ i) ∧ ∀ r, r < 51 → vS γ i ≠ L r)
def cS (L : Nat → Nat) (γ : Gh) (σ : TS) (s : CSt) : Prop := (∀ i, i < 2 → ShA L γ σ s i) ∧ (σ.2 54 0 ≠ -1 → σ.2 54 1 ≠ -1 → vS γ 0 ≠ vS γ 1)
def cR (E : gE) (γ : Gh) (s : CSt) : Prop := (∀ b, vZ γ b → s.1 b ≠ 0) ∧ ∀ b, b < 3 → RuA E (vZ γ) s (vR γ b) (vQ γ b) (vE γ b)
def cX (E : gE) (L : Nat → Nat) (γ : Gh) : Prop := (∀ r, r < 51 → ¬ vZ γ (L r)) ∧ (∀ i, i < 13 → ¬ vZ γ (vA γ i)) ∧ (∀ t i, t < 12 → i < vT γ t → ¬ vZ γ (vC γ t i)) ∧ (∀ t i t' i', t < 12 → t' < 12 → i < vT γ t → i' < vT γ t' → vC γ t i = vC γ t' i' → t = t' ∧ i = i') ∧ ∀ i j, i < 13 → j < 13 → vA γ i = vA γ j → vA γ i = E.2 20 ∨ i = j
/-- c: the copies that are counted -/
def CWc (E : gE) (L : Nat → Nat) (γ : Gh) (σ : TS) (c : Int32) (s : CSt) : Prop := Sc L s ∧ cP L σ c s ∧ cL E L γ σ s ∧ cB L γ σ s ∧ cT E L γ σ s ∧ cK L σ s ∧ cS L γ σ s ∧ cR E γ s ∧ cX E L γ
abbrev CW (E : gE) (L : Nat → Nat) (γ : Gh) (σ : TS) (s : CSt) : Prop := CWc E L γ σ (l_sum (σ.2 40) 12) s
section CIL
variable {E : gE} {L : Nat → Nat} {γ : Gh} {σ : TS} {c : Int32} {s s' : CSt}
theorem CWc.sc (h : CWc E L γ σ c s) : Sc L s := h.1
theorem CWc.p (h : CWc E L γ σ c s) : cP L σ c s := h.2.1
theorem CWc.l (h : CWc E L γ σ c s) : cL E L γ σ s := h.2.2.1
theorem CWc.b (h : CWc E L γ σ c s) : cB L γ σ s := h.2.2.2.1
theorem CWc.t (h : CWc E L γ σ c s) : cT E L γ σ s := h.2.2.2.2.1
theorem CWc.kn (h : CWc E L γ σ c s) : cK L σ s := h.2.2.2.2.2.1
theorem CWc.sh (h : CWc E L γ σ c s) : cS L γ σ s := h.2.2.2.2.2.2.1
theorem CWc.r (h : CWc E L γ σ c s) : cR E γ s := h.2.2.2.2.2.2.2.1
theorem CWc.x (h : CWc E L γ σ c s) : cX E L γ := h.2.2.2.2.2.2.2.2
theorem Sc.k (h : Sc L s) {r : Nat} (hr : r < 51) : s.1 (L r) = kst r := h.2.1 r hr
theorem Sc.n (h : Sc L s) {r : Nat} (hr : r < 51) (h2 : 30 ≤ kst r) : s.2.2.2.2 (L r) = nst r := h.2.2.1 r hr h2
theorem Sc.o (h : Sc L s) {r k r' : Nat} (hr : r < 51) (h2 : fst r k = some r') : s.2.1 (L r) k = .ref (L r') := h.2.2.2.1 r k r' hr h2
theorem Sc.f (h : Sc L s) {r i r' : Nat} (hr : r < 51) (h2 : est r i = some r') : s.2.2.2.1 (L r) i = some (L r') := h.2.2.2.2.2 r i r' hr h2
theorem Sc.ne (h : Sc L s) {r r' : Nat} (hr : r < 51) (hr' : r' < 51) (hn : r ≠ r') : L r ≠ L r' := fun z => hn (h.1 r r' hr hr' z)
theorem Sc.li (h : Sc L s) {r r' : Nat} (hr : r < 51) (hr' : r' < 51) : (L r = L r') = (r = r') := propext ⟨h.1 r r' hr hr', fun z => by rw [z]⟩
theorem kst_b {b : Nat} (hb : b < 3) : kst (5 + b) = 4 ∧ kst (8 + b) = 47 ∧ kst (35 + b) = 31 ∧ kst (38 + b) = 30 := by
  rcases (show b = 0 ∨ b = 1 ∨ b = 2 by omega) with rfl | rfl | rfl <;> exact ⟨rfl, rfl, rfl, rfl⟩
theorem kst_t {t : Nat} (ht : t < 12) : kst (11 + t) = 5 ∧ kst (23 + t) = 17 := by
  rcases (show t = 0 ∨ t = 1 ∨ t = 2 ∨ t = 3 ∨ t = 4 ∨ t = 5 ∨ t = 6 ∨ t = 7 ∨ t = 8 ∨ t = 9 ∨ t = 10 ∨ t = 11 by omega) with rfl | rfl | rfl | rfl | rfl | rfl | rfl | rfl | rfl | rfl | rfl | rfl <;> exact ⟨rfl, rfl⟩
theorem kst_s {i : Nat} (hi : i < 2) : kst (49 + i) = 9 := by
  rcases (show i = 0 ∨ i = 1 by omega) with rfl | rfl <;> rfl
theorem kst_c {r : Nat} (hr : r < 51) : kst r ≠ 0 ∧ kst r ≠ 44 ∧ kst r ≠ 15 ∧ kst r ≠ 16 ∧ kst r ≠ 33 := by
  have h : ∀ r, r < 51 → kst r ≠ 0 ∧ kst r ≠ 44 ∧ kst r ≠ 15 ∧ kst r ≠ 16 ∧ kst r ≠ 33 := by decide +kernel
  exact h r hr
theorem Sc.kb (h : Sc L s) {b : Nat} (hb : b < 3) : s.1 (L (5 + b)) = 4 := (h.k (by omega)).trans (kst_b hb).1
theorem Sc.kbt (h : Sc L s) {b : Nat} (hb : b < 3) : s.1 (L (8 + b)) = 47 := (h.k (by omega)).trans (kst_b hb).2.1
theorem Sc.kbh (h : Sc L s) {b : Nat} (hb : b < 3) : s.1 (L (35 + b)) = 31 := (h.k (by omega)).trans (kst_b hb).2.2.1
theorem Sc.kba (h : Sc L s) {b : Nat} (hb : b < 3) : s.1 (L (38 + b)) = 30 := (h.k (by omega)).trans (kst_b hb).2.2.2
theorem Sc.kt (h : Sc L s) {t : Nat} (ht : t < 12) : s.1 (L (11 + t)) = 5 := (h.k (by omega)).trans (kst_t ht).1
theorem Sc.ktl (h : Sc L s) {t : Nat} (ht : t < 12) : s.1 (L (23 + t)) = 17 := (h.k (by omega)).trans (kst_t ht).2
theorem Sc.ks (h : Sc L s) {i : Nat} (hi : i < 2) : s.1 (L (49 + i)) = 9 := (h.k (by omega)).trans (kst_s hi)
theorem Sc.nbt (h : Sc L s) {b : Nat} (hb : b < 3) : s.2.2.2.2 (L (8 + b)) = 4 := by
  rw [h.n (by omega) (by rw [(kst_b hb).2.1]; decide)]
  rcases (show b = 0 ∨ b = 1 ∨ b = 2 by omega) with rfl | rfl | rfl <;> rfl
theorem Sc.nbh (h : Sc L s) {b : Nat} (hb : b < 3) : s.2.2.2.2 (L (35 + b)) = 10300 := by
  rw [h.n (by omega) (by rw [(kst_b hb).2.2.1]; decide)]
  rcases (show b = 0 ∨ b = 1 ∨ b = 2 by omega) with rfl | rfl | rfl <;> rfl
theorem Sc.nba (h : Sc L s) {b : Nat} (hb : b < 3) : s.2.2.2.2 (L (38 + b)) = 16 := by
  rw [h.n (by omega) (by rw [(kst_b hb).2.2.2]; decide)]
  rcases (show b = 0 ∨ b = 1 ∨ b = 2 by omega) with rfl | rfl | rfl <;> rfl
theorem fst_b {b : Nat} (hb : b < 3) : fst (5 + b) 1 = some (8 + b) ∧ fst (5 + b) 2 = some (35 + b) ∧ fst (5 + b) 3 = some (38 + b) := by
  rcases (show b = 0 ∨ b = 1 ∨ b = 2 by omega) with rfl | rfl | rfl <;> exact ⟨rfl, rfl, rfl⟩
theorem fst_t {t : Nat} (ht : t < 12) : fst (11 + t) 0 = some (23 + t) := by
  rcases (show t = 0 ∨ t = 1 ∨ t = 2 ∨ t = 3 ∨ t = 4 ∨ t = 5 ∨ t = 6 ∨ t = 7 ∨ t = 8 ∨ t = 9 ∨ t = 10 ∨ t = 11 by omega) with rfl | rfl | rfl | rfl | rfl | rfl | rfl | rfl | rfl | rfl | rfl | rfl <;> rfl
theorem Sc.ob1 (h : Sc L s) {b : Nat} (hb : b < 3) : s.2.1 (L (5 + b)) 1 = .ref (L (8 + b)) := h.o (by omega) (fst_b hb).1
theorem Sc.ob2 (h : Sc L s) {b : Nat} (hb : b < 3) : s.2.1 (L (5 + b)) 2 = .ref (L (35 + b)) := h.o (by omega) (fst_b hb).2.1
theorem Sc.ob3 (h : Sc L s) {b : Nat} (hb : b < 3) : s.2.1 (L (5 + b)) 3 = .ref (L (38 + b)) := h.o (by omega) (fst_b hb).2.2
theorem Sc.ot (h : Sc L s) {t : Nat} (ht : t < 12) : s.2.1 (L (11 + t)) 0 = .ref (L (23 + t)) := h.o (by omega) (fst_t ht)
theorem Sc.fb (h : Sc L s) {b : Nat} (hb : b < 3) : s.2.2.2.1 (L 4) b = some (L (5 + b)) := h.f (by omega) (by unfold est; rw [if_pos rfl, if_pos hb])
theorem Sc.ft (h : Sc L s) {b t : Nat} (hb : b < 3) (ht : t < 4) : s.2.2.2.1 (L (8 + b)) t = some (L (11 + (4 * b + t))) := h.f (by omega) (by unfold est; rw [if_neg (by omega), if_pos (by omega), if_pos ht]; congr 1; omega)
theorem Sc.fs (h : Sc L s) {i : Nat} (hi : i < 2) : s.2.2.2.1 (L 48) i = some (L (49 + i)) := h.f (by omega) (by unfold est; rw [if_neg (by omega), if_neg (by omega), if_pos rfl, if_pos hi])
end CIL
