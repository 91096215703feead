/-! numbers -/
theorem i32_bm {z : Int} (h1 : -2147483648 ≤ z) (h2 : z < 2147483648) : z.bmod (2 ^ 32) = z := by
  rw [Int.bmod_def]
  split <;> omega
theorem i32_add {a b : Int32} (h1 : -2147483648 ≤ a.toInt + b.toInt) (h2 : a.toInt + b.toInt < 2147483648) : (a + b).toInt = a.toInt + b.toInt := by
  rw [Int32.toInt_add]; exact i32_bm h1 h2
theorem i32_sub {a b : Int32} (h1 : -2147483648 ≤ a.toInt - b.toInt) (h2 : a.toInt - b.toInt < 2147483648) : (a - b).toInt = a.toInt - b.toInt := by
  rw [Int32.toInt_sub]; exact i32_bm h1 h2
theorem i32_mul {a b : Int32} (h1 : -2147483648 ≤ a.toInt * b.toInt) (h2 : a.toInt * b.toInt < 2147483648) : (a * b).toInt = a.toInt * b.toInt := by
  rw [Int32.toInt_mul]; exact i32_bm h1 h2
theorem i32_eq {a b : Int32} : a = b ↔ a.toInt = b.toInt := Int32.toInt_inj.symm
theorem i32_lt {a b : Int32} : a < b ↔ a.toInt < b.toInt := Int32.lt_iff_toInt_lt
theorem i32_le {a b : Int32} : a ≤ b ↔ a.toInt ≤ b.toInt := Int32.le_iff_toInt_le
theorem i32_cl (a : Int32) : a.toNatClampNeg = a.toInt.toNat := rfl
theorem i32_rg (a : Int32) : -2147483648 ≤ a.toInt ∧ a.toInt < 2147483648 := ⟨Int32.le_toInt a, Int32.toInt_lt a⟩
theorem i32_of {z : Int} (h1 : -2147483648 ≤ z) (h2 : z < 2147483648) : (Int32.ofInt z).toInt = z := by
  rw [Int32.toInt_ofInt]; exact i32_bm h1 h2
theorem i32_in {x : Int32} {n : Nat} (h0 : 0 ≤ x.toInt) (h1 : x.toInt < n) : vp_in x n := vp_in_iff.mpr ⟨h0, h1⟩
theorem i32_in' {x : Int32} {n : Nat} {z : Int} (h : x.toInt = z) (h0 : 0 ≤ z) (h1 : z < n) : vp_in x n := vp_in_iff.mpr ⟨by rw [h]; exact h0, by rw [h]; exact h1⟩
/-- a truth as 1 or 0 -/
def Tz (P : Prop) (r : Int32) : Prop := (r = 1 ∧ P) ∨ (r = 0 ∧ ¬ P)
theorem Tz.f {P : Prop} {r : Int32} (h : Tz P r) (c : r = 0) : ¬ P := by
  rcases h with ⟨h1, h2⟩ | ⟨h1, h2⟩
  · rw [h1] at c; exact absurd c (by decide)
  · exact h2
theorem Tz.t {P : Prop} {r : Int32} (h : Tz P r) (c : ¬ r = 0) : P := by
  rcases h with ⟨h1, h2⟩ | ⟨h1, h2⟩
  · exact h2
  · exact absurd h1 c
theorem Tz.b {P : Prop} {r : Int32} (h : Tz P r) : r = 0 ∨ r = 1 := by
  rcases h with ⟨h1, h2⟩ | ⟨h1, h2⟩
  · exact Or.inr h1
  · exact Or.inl h1
theorem Tz.iff {P Q : Prop} {r : Int32} (h : Tz P r) (e : P ↔ Q) : Tz Q r := by
  rcases h with ⟨h1, h2⟩ | ⟨h1, h2⟩
  · exact Or.inl ⟨h1, e.mp h2⟩
  · exact Or.inr ⟨h1, fun z => h2 (e.mpr z)⟩
theorem Tz1 {P : Prop} (h : P) : Tz P 1 := Or.inl ⟨rfl, h⟩
theorem Tz0 {P : Prop} (h : ¬ P) : Tz P 0 := Or.inr ⟨rfl, h⟩
/-- a boolean's number -/
def zB (b : Bool) : Int32 := if b then 1 else 0
/-! static methods -/
theorem SMi.of {E : gE} {y : MethodName} {cc : ByteArray} {nL d : Nat} {ret : FieldType} {As : List Value} {q : Int32 → Prop} (hy : plainName y.cls = true) (hn : (lg_sl As).length ≤ nL)
    (body : ∀ (κ : Kx) (G : gH), kE κ = E → kL κ = nL → Ok κ cc y.cls d → Rets κ (some ret) (pI (fun r G' => G' = G ∧ q r)) → X κ G 0 0 0 (loE As nL) []) : SMi E y cc nL ret d As q := fun G => CM.of hy hn (fun κ h1 h2 h3 h4 => body κ G h1 h2 h3 h4)
theorem s_reti {κ : Kx} {G : gH} {u w pc d : Nat} {lv : List (Option Value)} {cc : ByteArray} {own : String} {q : Int32 → Prop} {x : Int32} (hκ : Ok κ cc own d) (hr : Rets κ (some .int) (pI (fun r G' => G' = G ∧ q r))) (dg : decode cc pc = .ok (.ireturn, 1)) (h : q x) : X κ G u w pc lv [.int x] := x_ireturn hκ hr dg ⟨x, rfl, rfl, h⟩
theorem s_retz {κ : Kx} {G : gH} {u w pc d : Nat} {lv : List (Option Value)} {cc : ByteArray} {own : String} {q : Int32 → Prop} {x : Int32} (hκ : Ok κ cc own d) (hr : Rets κ (some .boolean) (pI (fun r G' => G' = G ∧ q r))) (dg : decode cc pc = .ok (.ireturn, 1)) (hx : x = 0 ∨ x = 1) (h : q x) : X κ G u w pc lv [.int x] := x_zreturn hκ hr dg hx ⟨x, rfl, rfl, h⟩
/-! numbers by their Nat: rows that name what they compute -/
theorem nm_mul (c b : Nat) : nI c * nI b = nI (c * b) := pk_mul c b
theorem nm_2 (b : Nat) : (2 : Int32) * nI b = nI (2 * b) := pk_mul 2 b
theorem nm_3 (b : Nat) : (3 : Int32) * nI b = nI (3 * b) := pk_mul 3 b
theorem nm_4 (b : Nat) : (4 : Int32) * nI b = nI (4 * b) := pk_mul 4 b
theorem nm_6 (b : Nat) : (6 : Int32) * nI b = nI (6 * b) := pk_mul 6 b
theorem nm_7 (b : Nat) : (7 : Int32) * nI b = nI (7 * b) := pk_mul 7 b
theorem nm_8 (b : Nat) : (8 : Int32) * nI b = nI (8 * b) := pk_mul 8 b
theorem nm_12 (b : Nat) : (12 : Int32) * nI b = nI (12 * b) := pk_mul 12 b
theorem nm_16 (b : Nat) : (16 : Int32) * nI b = nI (16 * b) := pk_mul 16 b
theorem nm_24 (b : Nat) : (24 : Int32) * nI b = nI (24 * b) := pk_mul 24 b
theorem nm_40 (b : Nat) : (40 : Int32) * nI b = nI (40 * b) := pk_mul 40 b
theorem nm_180 (b : Nat) : (180 : Int32) * nI b = nI (180 * b) := pk_mul 180 b
theorem nm_300 (b : Nat) : (300 : Int32) * nI b = nI (300 * b) := pk_mul 300 b
theorem nm_10210 (b : Nat) : (10210 : Int32) * nI b = nI (10210 * b) := pk_mul 10210 b
theorem na_0 (b : Nat) : nI b + 0 = nI (b + 0) := nI_add b 0
theorem na_7 (b : Nat) : nI b + 7 = nI (b + 7) := nI_add b 7
theorem na_2 (b : Nat) : nI b + 2 = nI (b + 2) := nI_add b 2
theorem na_3 (b : Nat) : nI b + 3 = nI (b + 3) := nI_add b 3
theorem na_4 (b : Nat) : nI b + 4 = nI (b + 4) := nI_add b 4
theorem na_5 (b : Nat) : nI b + 5 = nI (b + 5) := nI_add b 5
theorem na_6 (b : Nat) : nI b + 6 = nI (b + 6) := nI_add b 6
theorem na_8 (b : Nat) : nI b + 8 = nI (b + 8) := nI_add b 8
theorem nm_p {a : Nat} (h : 1 ≤ a) : nI a - 1 = nI (a - 1) := pk_sub h
theorem nm_m {a : Nat} (h : 1 ≤ a) : nI a + (-1) = nI (a - 1) := by
  obtain ⟨b, rfl⟩ : ∃ b, a = b + 1 := ⟨a - 1, by omega⟩
  rw [pk_m1]; rfl
section XN
variable {κ : Kx} {G : gH} {u w pc d : Nat} {lv : List (Option Value)} {st : List Value} {cc : ByteArray} {own : String}
theorem x_iaddN (hκ : Ok κ cc own d) {x y v : Int32} (hv : x + y = v) (dg : decode cc pc = .ok (.iadd, 1)) (k : X κ G u w (pc + 1) lv (.int v :: st)) : X κ G u w pc lv (.int y :: .int x :: st) := x_iadd hκ dg (by rw [hv]; exact k)
theorem x_isubN (hκ : Ok κ cc own d) {x y v : Int32} (hv : x - y = v) (dg : decode cc pc = .ok (.isub, 1)) (k : X κ G u w (pc + 1) lv (.int v :: st)) : X κ G u w pc lv (.int y :: .int x :: st) := x_isub hκ dg (by rw [hv]; exact k)
theorem x_imulN (hκ : Ok κ cc own d) {x y v : Int32} (hv : x * y = v) (dg : decode cc pc = .ok (.imul, 1)) (k : X κ G u w (pc + 1) lv (.int v :: st)) : X κ G u w pc lv (.int y :: .int x :: st) := x_imul hκ dg (by rw [hv]; exact k)
theorem x_iincN (hκ : Ok κ cc own d) {n : Nat} {z : Int} {x y v : Int32} (dg : decode cc pc = .ok (.iinc n z, 3)) (hz : Int32.ofInt z = y) (h : lv[n]? = some (some (.int x))) (hn : n < kL κ) (ho : loOk lv n = true) (hv : x + y = v) (k : X κ G u w (pc + 3) (lv.set n (some (.int v))) st) : X κ G u w pc lv st := x_iinc hκ dg hz h hn ho (by rw [hv]; exact k)
end XN
