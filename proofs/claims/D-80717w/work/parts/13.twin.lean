/-! THE REFERENCE's WORLD: one object of 61 fields; its arrays, each its own. σ: its numbers (σ.1 k: the field k) and its arrays' contents (σ.2 k i); θ: the object's address, its arrays' addresses -/
abbrev TS : Type := (Nat → Int32) × (Nat → Nat → Int32)
abbrev TA : Type := Nat × (Nat → Nat)
/-- 0 an int, 1 a boolean, 2 an array of ints, 3 of booleans -/
def tK (k : Nat) : Nat := ([2, 0, 2, 2, 2, 2, 2, 2, 2, 0, 0, 2, 0, 0, 2, 0, 2, 2, 2, 0, 3, 1, 0, 0, 0, 0, 2, 2, 2, 2, 2, 2, 2, 2, 3, 2, 0, 0, 0, 0, 2, 2, 3, 2, 0, 2, 2, 2, 0, 0, 0, 1, 1, 0, 2, 2, 2, 2, 2, 2, 0] : List Nat).getD k 0
def tLen (k : Nat) : Nat := ([90, 0, 3, 540, 21, 72, 18, 12, 3, 0, 0, 96, 0, 0, 180, 0, 7, 24, 6, 0, 96, 0, 0, 0, 0, 0, 210, 210, 210, 210, 210, 210, 210, 210, 30630, 48, 0, 0, 0, 0, 12, 3600, 3600, 3600, 0, 64, 64, 64, 0, 0, 0, 0, 0, 0, 2, 2, 80, 2, 24, 180, 0] : List Nat).getD k 0
def tFs (θ : TA) (σ : TS) : List Value := (List.range 61).map (fun k => if 2 ≤ tK k then .ref (θ.2 k) else .int (σ.1 k))
def tG (E : gE) (θ : TA) (σ : TS) : gH := fun a => if a = θ.1 then some (.inr (0, tFs θ σ)) else ((List.range 61).find? (fun k => decide (2 ≤ tK k) && (θ.2 k == a))).map (fun k => .inl (E.2 (tK k - 2), tLen k, .inl (σ.2 k)))
def tOk (θ : TA) : Prop := (∀ j k : Nat, j < 61 → k < 61 → 2 ≤ tK j → 2 ≤ tK k → θ.2 j = θ.2 k → j = k) ∧ ∀ k : Nat, k < 61 → 2 ≤ tK k → θ.2 k ≠ θ.1
/-- a number is put; a place of an array is put -/
def tS (σ : TS) (k : Nat) (v : Int32) : TS := (upd σ.1 k v, σ.2)
def tA (σ : TS) (k i : Nat) (v : Int32) : TS := (σ.1, fun j => if j = k then upd (σ.2 k) i v else σ.2 j)
theorem tS_1 {σ : TS} {k j : Nat} {v : Int32} : (tS σ k v).1 j = if j = k then v else σ.1 j := rfl
theorem tS_2 {σ : TS} {k : Nat} {v : Int32} : (tS σ k v).2 = σ.2 := rfl
theorem tA_1 {σ : TS} {k i : Nat} {v : Int32} : (tA σ k i v).1 = σ.1 := rfl
theorem tA_2 {σ : TS} {k i j : Nat} {v : Int32} : (tA σ k i v).2 j = if j = k then upd (σ.2 k) i v else σ.2 j := rfl
def tF (σ : TS) (k : Nat) (f : Nat → Int32) : TS := (σ.1, fun j => if j = k then f else σ.2 j)
theorem tF_1 {σ : TS} {k : Nat} {f : Nat → Int32} : (tF σ k f).1 = σ.1 := rfl
theorem tF_2 {σ : TS} {k j : Nat} {f : Nat → Int32} : (tF σ k f).2 j = if j = k then f else σ.2 j := rfl
theorem xl_0 : (0 : Int32).toNatClampNeg = 0 := rfl
theorem xl_1 : (1 : Int32).toNatClampNeg = 1 := rfl
theorem xl_2 : (2 : Int32).toNatClampNeg = 2 := rfl
theorem tFs_len (θ : TA) (σ : TS) : (tFs θ σ).length = 61 := by unfold tFs; rw [List.length_map, List.length_range]
theorem tFs_at (θ : TA) (σ : TS) {k : Nat} (h : k < 61) : (tFs θ σ)[k]? = some (if 2 ≤ tK k then .ref (θ.2 k) else .int (σ.1 k)) := by
  unfold tFs
  rw [List.getElem?_map, List.getElem?_range h]
  rfl
theorem tG_o (E : gE) (θ : TA) (σ : TS) : tG E θ σ θ.1 = some (.inr (0, tFs θ σ)) := if_pos rfl
theorem tG_find {θ : TA} (hθ : tOk θ) {k : Nat} (hk : k < 61) (h2 : 2 ≤ tK k) : (List.range 61).find? (fun j => decide (2 ≤ tK j) && (θ.2 j == θ.2 k)) = some k := by
  cases h : (List.range 61).find? (fun j => decide (2 ≤ tK j) && (θ.2 j == θ.2 k)) with
  | none =>
    have h1 := List.find?_eq_none.mp h k (List.mem_range.mpr hk)
    simp [h2] at h1
  | some j =>
    have h1 := List.find?_some h
    have h3 := List.mem_range.mp (List.mem_of_find?_eq_some h)
    simp only [Bool.and_eq_true, decide_eq_true_eq, beq_iff_eq] at h1
    rw [hθ.1 j k h3 hk h1.1 h2 h1.2]
theorem tG_r {E : gE} {θ : TA} (hθ : tOk θ) (σ : TS) {k : Nat} (hk : k < 61) (h2 : 2 ≤ tK k) : tG E θ σ (θ.2 k) = some (.inl (E.2 (tK k - 2), tLen k, .inl (σ.2 k))) := by
  unfold tG
  rw [if_neg (hθ.2 k hk h2), tG_find hθ hk h2]
  rfl
theorem tG_put {E : gE} {θ : TA} {σ : TS} {k : Nat} {v : Int32} (hk : k < 61) (h2 : tK k < 2) : gU (tG E θ σ) θ.1 (.inr (0, (tFs θ σ).set k (.int v))) = tG E θ (tS σ k v) := by
  have h : (tFs θ σ).set k (.int v) = tFs θ (tS σ k v) := by
    refine List.ext_getElem? fun j => ?_
    by_cases hj : j < 61
    · rw [tFs_at _ _ hj]
      by_cases hjk : j = k
      · subst hjk
        rw [List.getElem?_set_self (by rw [tFs_len]; exact hj), if_neg (by omega), tS_1, if_pos rfl]
      · rw [List.getElem?_set_ne (Ne.symm hjk), tFs_at _ _ hj, tS_1, if_neg hjk]
    · rw [List.getElem?_eq_none (by rw [List.length_set, tFs_len]; omega), List.getElem?_eq_none (by rw [tFs_len]; omega)]
  funext a
  unfold gU
  by_cases ha : a = θ.1
  · rw [if_pos ha, ha, tG_o, h]
  · rw [if_neg ha]
    unfold tG
    rw [if_neg ha, if_neg ha]
    rfl
theorem tG_ast {E : gE} {θ : TA} (hθ : tOk θ) {σ : TS} {k i : Nat} {v : Int32} (hk : k < 61) (h2 : 2 ≤ tK k) : gU (tG E θ σ) (θ.2 k) (.inl (E.2 (tK k - 2), tLen k, .inl (upd (σ.2 k) i v))) = tG E θ (tA σ k i v) := by
  funext a
  unfold gU
  by_cases ha : a = θ.2 k
  · rw [if_pos ha, ha, tG_r hθ _ hk h2, tA_2, if_pos rfl]
  · rw [if_neg ha]
    by_cases hb : a = θ.1
    · rw [hb, tG_o, tG_o]
      rfl
    · unfold tG
      rw [if_neg hb, if_neg hb]
      cases h : (List.range 61).find? (fun j => decide (2 ≤ tK j) && (θ.2 j == a)) with
      | none => rfl
      | some j =>
        have h1 := List.find?_some h
        simp only [Bool.and_eq_true, decide_eq_true_eq, beq_iff_eq] at h1
        have h3 : j ≠ k := fun z => ha (by rw [← z]; exact h1.2.symm)
        show some _ = some _
        dsimp only
        rw [tA_2, if_neg h3]
section TR
variable {κ : Kx} {u w pc d : Nat} {lv : List (Option Value)} {st : List Value} {cc : ByteArray} {θ : TA} {σ : TS}
theorem t_get (hκ : Ok κ cc RX8 d) {k idx : Nat} (hlink : Cond.fieldLink RX8 idx RX8 (TX8 k).2.1 (TX8 k).2.2.1 ∈ lw_all) (hk : k < 61) (hn : ¬ 2 ≤ tK k) (href : (TX8 k).1 = RX8) {v : Int32} (hv : σ.1 k = v) (dg : decode cc pc = .ok (.getfield idx, 3)) (kk : X κ (tG (kE κ) θ σ) u w (pc + 3) lv (.int v :: st)) : X κ (tG (kE κ) θ σ) u w pc lv (.ref θ.1 :: st) :=
  x_get hκ in_X8 (tG_o _ θ σ) rfl k hk hlink href (by rw [tFs_at _ _ hk, if_neg hn, hv]) dg kk
theorem t_getA (hκ : Ok κ cc RX8 d) {k idx : Nat} (hlink : Cond.fieldLink RX8 idx RX8 (TX8 k).2.1 (TX8 k).2.2.1 ∈ lw_all) (hk : k < 61) (hn : 2 ≤ tK k) (href : (TX8 k).1 = RX8) (dg : decode cc pc = .ok (.getfield idx, 3)) (kk : X κ (tG (kE κ) θ σ) u w (pc + 3) lv (.ref (θ.2 k) :: st)) : X κ (tG (kE κ) θ σ) u w pc lv (.ref θ.1 :: st) :=
  x_get hκ in_X8 (tG_o _ θ σ) rfl k hk hlink href (by rw [tFs_at _ _ hk, if_pos hn]) dg kk
theorem t_put (hκ : Ok κ cc RX8 d) {k idx : Nat} {v : Int32} (hlink : Cond.fieldLink RX8 idx RX8 (TX8 k).2.1 (TX8 k).2.2.1 ∈ lw_all) (hk : k < 61) (hn : tK k < 2) (href : (TX8 k).1 = RX8) (hfin : (TX8 k).2.2.2 = false) (hty : tyX8 k = .int) (dg : decode cc pc = .ok (.putfield idx, 3)) (kk : X κ (tG (kE κ) θ (tS σ k v)) u w (pc + 3) lv st) : X κ (tG (kE κ) θ σ) u w pc lv (.int v :: .ref θ.1 :: st) :=
  x_put hκ in_X8 tyX8 tyX8_ok nmX8 (tG_o _ θ σ) rfl k hk hlink href hfin hty rfl rfl (by rw [tFs_len]; exact hk) dg (by rw [tG_put hk hn]; exact kk)
theorem t_putZ (hκ : Ok κ cc RX8 d) {k idx : Nat} {v : Int32} (hlink : Cond.fieldLink RX8 idx RX8 (TX8 k).2.1 (TX8 k).2.2.1 ∈ lw_all) (hk : k < 61) (hn : tK k < 2) (href : (TX8 k).1 = RX8) (hfin : (TX8 k).2.2.2 = false) (hty : tyX8 k = .boolean) (hv : v = 0 ∨ v = 1) (dg : decode cc pc = .ok (.putfield idx, 3)) (kk : X κ (tG (kE κ) θ (tS σ k v)) u w (pc + 3) lv st) : X κ (tG (kE κ) θ σ) u w pc lv (.int v :: .ref θ.1 :: st) :=
  x_put hκ in_X8 tyX8 tyX8_ok nmX8 (tG_o _ θ σ) rfl k hk hlink href hfin hty (by rcases hv with rfl | rfl <;> rfl) (by rcases hv with rfl | rfl <;> rfl) (by rw [tFs_len]; exact hk) dg (by rw [tG_put hk hn]; exact kk)
theorem t_iald (hκ : Ok κ cc RX8 d) (hθ : tOk θ) {k n : Nat} {x : Int32} (hk : k < 61) (hn : tK k = 2) (hlen : tLen k = n) (hx : vp_in x n) {v : Int32} (hv : σ.2 k x.toNatClampNeg = v) (dg : decode cc pc = .ok (.iaload, 1)) (kk : X κ (tG (kE κ) θ σ) u w (pc + 1) lv (.int v :: st)) : X κ (tG (kE κ) θ σ) u w pc lv (.int x :: .ref (θ.2 k) :: st) :=
  x_iald hκ (by rw [tG_r hθ _ hk (by omega), hn]) (hlen ▸ hx) dg (by rw [hv]; exact kk)
theorem t_zald (hκ : Ok κ cc RX8 d) (hθ : tOk θ) {k n : Nat} {x : Int32} (hk : k < 61) (hn : tK k = 3) (hlen : tLen k = n) (hx : vp_in x n) {v : Int32} (hv : σ.2 k x.toNatClampNeg = v) (dg : decode cc pc = .ok (.baload, 1)) (kk : X κ (tG (kE κ) θ σ) u w (pc + 1) lv (.int v :: st)) : X κ (tG (kE κ) θ σ) u w pc lv (.int x :: .ref (θ.2 k) :: st) :=
  x_zald hκ (by rw [tG_r hθ _ hk (by omega), hn]) (hlen ▸ hx) dg (by rw [hv]; exact kk)
theorem t_iast (hκ : Ok κ cc RX8 d) (hθ : tOk θ) {k n : Nat} {x y : Int32} (hk : k < 61) (hn : tK k = 2) (hlen : tLen k = n) (hx : vp_in x n) {z : Nat} (hz : x.toNatClampNeg = z) (dg : decode cc pc = .ok (.iastore, 1)) (kk : X κ (tG (kE κ) θ (tA σ k z y)) u w (pc + 1) lv st) : X κ (tG (kE κ) θ σ) u w pc lv (.int y :: .int x :: .ref (θ.2 k) :: st) := by
  subst hlen
  subst hz
  have h := tG_ast (E := kE κ) hθ (σ := σ) (i := x.toNatClampNeg) (v := y) hk (by omega : 2 ≤ tK k)
  rw [hn] at h
  exact x_iast hκ (by rw [tG_r hθ _ hk (by omega), hn]) hx dg (by rw [h]; exact kk)
theorem t_zast (hκ : Ok κ cc RX8 d) (hθ : tOk θ) {k n : Nat} {x y : Int32} (hk : k < 61) (hn : tK k = 3) (hlen : tLen k = n) (hx : vp_in x n) {z : Nat} (hz : x.toNatClampNeg = z) (hy : y = 0 ∨ y = 1) (dg : decode cc pc = .ok (.bastore, 1)) (kk : X κ (tG (kE κ) θ (tA σ k z y)) u w (pc + 1) lv st) : X κ (tG (kE κ) θ σ) u w pc lv (.int y :: .int x :: .ref (θ.2 k) :: st) := by
  subst hlen
  subst hz
  have h := tG_ast (E := kE κ) hθ (σ := σ) (i := x.toNatClampNeg) (v := y) hk (by omega : 2 ≤ tK k)
  rw [hn] at h
  have hy2 : vp_nar .boolean y = y := by rcases hy with rfl | rfl <;> rfl
  refine x_zast hκ (by rw [tG_r hθ _ hk (by omega), hn]) hx dg ?_
  rw [hy2, h]
  exact kk
end TR
/-- the contracts of the reference's methods: what is answered, and the numbers then -/
def TMi (E : gE) (θ : TA) (σ : TS) (y : MethodName) (cc : ByteArray) (nL : Nat) (ret : FieldType) (d : Nat) (As : List Value) (q : Int32 → TS → Prop) : Prop := CM E y cc nL (some ret) d 0 0 (.ref θ.1 :: As) (tG E θ σ) (pI (fun r G => ∃ σ' : TS, G = tG E θ σ' ∧ q r σ'))
def TMv (E : gE) (θ : TA) (σ : TS) (y : MethodName) (cc : ByteArray) (nL : Nat) (d : Nat) (As : List Value) (q : TS → Prop) : Prop := CM E y cc nL none d 0 0 (.ref θ.1 :: As) (tG E θ σ) (pV (fun G => ∃ σ' : TS, G = tG E θ σ' ∧ q σ'))
/-- a static method that reads and writes nothing -/
def SMi (E : gE) (y : MethodName) (cc : ByteArray) (nL : Nat) (ret : FieldType) (d : Nat) (As : List Value) (q : Int32 → Prop) : Prop := ∀ G : gH, CM E y cc nL (some ret) d 0 0 As G (pI (fun r G' => G' = G ∧ q r))
section TC
variable {κ : Kx} {pc d : Nat} {lv : List (Option Value)} {st : List Value} {cc : ByteArray} {θ : TA} {σ : TS}
theorem t_calli (hκ : Ok κ cc RX8 d) {y : MethodName} {cc' : ByteArray} {nL' : Nat} {ret' : FieldType} {d' idx : Nat} {As rest : List Value} {q : Int32 → TS → Prop} (hM : TMi (kE κ) θ σ y cc' nL' ret' d' As q) (hd : d' < d) (hL : nL' ≤ 45) (hw : GoodIn lw_all (wsV RX8 idx RX8 y (ws_ y cc' nL' (some ret'))))
    (ha : y.cls = RX8 ∧ y.cls ≠ "java/lang/invoke/MethodHandle" ∧ y.cls ≠ "java/lang/invoke/VarHandle" ∧ (parseMethodDescriptor y.desc).map (fun d => d.parameters.length) = some As.length) (hst : st = As.reverse ++ .ref θ.1 :: rest) (hrest : (rest.map fun v => v.category).sum ≤ 8) (dg : decode cc pc = .ok (.invokevirtual idx, 3))
    (kk : ∀ (r : Int32) (σ' : TS), q r σ' → X κ (tG (kE κ) θ σ') 0 0 (pc + 3) lv (.int r :: rest)) : X κ (tG (kE κ) θ σ) 0 0 pc lv st :=
  x_callV (u := 0) (w := 0) hκ hM hd hL hw ha (tG_o _ θ σ) rfl hst hrest dg (by rintro v G' ⟨r, rfl, σ', rfl, hq⟩; exact kk r σ' hq)
theorem t_callR (hκ : Ok κ cc RX8 d) {y : MethodName} {cc' : ByteArray} {nL' : Nat} {ret' : FieldType} {d' idx : Nat} {As rest : List Value} {q : Int32 → Prop} (hM : TMi (kE κ) θ σ y cc' nL' ret' d' As (fun r σ' => q r ∧ σ' = σ)) (hd : d' < d) (hL : nL' ≤ 45) (hw : GoodIn lw_all (wsV RX8 idx RX8 y (ws_ y cc' nL' (some ret'))))
    (ha : y.cls = RX8 ∧ y.cls ≠ "java/lang/invoke/MethodHandle" ∧ y.cls ≠ "java/lang/invoke/VarHandle" ∧ (parseMethodDescriptor y.desc).map (fun d => d.parameters.length) = some As.length) (hst : st = As.reverse ++ .ref θ.1 :: rest) (hrest : (rest.map fun v => v.category).sum ≤ 8) (dg : decode cc pc = .ok (.invokevirtual idx, 3))
    (kk : ∀ (r : Int32), q r → X κ (tG (kE κ) θ σ) 0 0 (pc + 3) lv (.int r :: rest)) : X κ (tG (kE κ) θ σ) 0 0 pc lv st :=
  x_callV (u := 0) (w := 0) hκ hM hd hL hw ha (tG_o _ θ σ) rfl hst hrest dg (by rintro v G' ⟨r, rfl, σ', rfl, hq, rfl⟩; exact kk r hq)
theorem t_callv (hκ : Ok κ cc RX8 d) {y : MethodName} {cc' : ByteArray} {nL' : Nat} {d' idx : Nat} {As rest : List Value} {q : TS → Prop} (hM : TMv (kE κ) θ σ y cc' nL' d' As q) (hd : d' < d) (hL : nL' ≤ 45) (hw : GoodIn lw_all (wsV RX8 idx RX8 y (ws_ y cc' nL' none)))
    (ha : y.cls = RX8 ∧ y.cls ≠ "java/lang/invoke/MethodHandle" ∧ y.cls ≠ "java/lang/invoke/VarHandle" ∧ (parseMethodDescriptor y.desc).map (fun d => d.parameters.length) = some As.length) (hst : st = As.reverse ++ .ref θ.1 :: rest) (hrest : (rest.map fun v => v.category).sum ≤ 8) (dg : decode cc pc = .ok (.invokevirtual idx, 3))
    (kk : ∀ (σ' : TS), q σ' → X κ (tG (kE κ) θ σ') 0 0 (pc + 3) lv rest) : X κ (tG (kE κ) θ σ) 0 0 pc lv st :=
  x_callV (u := 0) (w := 0) hκ hM hd hL hw ha (tG_o _ θ σ) rfl hst hrest dg (by rintro v G' ⟨rfl, σ', rfl, hq⟩; exact kk σ' hq)
theorem x_callSi {G : gH} {u w : Nat} {own : String} (hκ : Ok κ cc own d) {y : MethodName} {cc' : ByteArray} {nL' : Nat} {ret' : FieldType} {d' idx : Nat} {As rest : List Value} {q : Int32 → Prop} (hM : SMi (kE κ) y cc' nL' ret' d' As q) (hd : d' < d) (hL : nL' ≤ 45) (hw : GoodIn lw_all (va_wsS own idx y (ws_ y cc' nL' (some ret'))))
    (ha : y.cls ≠ "java/lang/invoke/MethodHandle" ∧ y.cls ≠ "java/lang/invoke/VarHandle" ∧ (parseMethodDescriptor y.desc).map (fun d => d.parameters.length) = some As.length) (hst : st = As.reverse ++ rest) (hrest : (rest.map fun v => v.category).sum ≤ 8) (dg : decode cc pc = .ok (.invokestatic idx, 3))
    (kk : ∀ (r : Int32), q r → X κ G u w (pc + 3) lv (.int r :: rest)) : X κ G u w pc lv st :=
  x_callS (mc := 0) (ms := 0) hκ (hM G) hd hL hw ha hst hrest dg (by rintro v G' ⟨r, rfl, rfl, hq⟩; exact kk r hq)
theorem TMi.of {E : gE} {y : MethodName} {nL : Nat} {ret : FieldType} {As : List Value} {q : Int32 → TS → Prop} (hy : plainName y.cls = true) (hn : (lg_sl (.ref θ.1 :: As)).length ≤ nL)
    (body : ∀ κ : Kx, kE κ = E → kL κ = nL → Ok κ cc y.cls d → Rets κ (some ret) (pI (fun r G => ∃ σ' : TS, G = tG E θ σ' ∧ q r σ')) → X κ (tG E θ σ) 0 0 0 (loE (.ref θ.1 :: As) nL) []) : TMi E θ σ y cc nL ret d As q := CM.of hy hn body
theorem TMv.of {E : gE} {y : MethodName} {nL : Nat} {As : List Value} {q : TS → Prop} (hy : plainName y.cls = true) (hn : (lg_sl (.ref θ.1 :: As)).length ≤ nL)
    (body : ∀ κ : Kx, kE κ = E → kL κ = nL → Ok κ cc y.cls d → Rets κ none (pV (fun G => ∃ σ' : TS, G = tG E θ σ' ∧ q σ')) → X κ (tG E θ σ) 0 0 0 (loE (.ref θ.1 :: As) nL) []) : TMv E θ σ y cc nL d As q := CM.of hy hn body
theorem t_reti {ret : FieldType} {q : Int32 → TS → Prop} (hκ : Ok κ cc RX8 d) (hr : Rets κ (some ret) (pI (fun r G => ∃ σ' : TS, G = tG (kE κ) θ σ' ∧ q r σ'))) (he : ret = .int) {x : Int32} {u w : Nat} (dg : decode cc pc = .ok (.ireturn, 1)) (h : q x σ) : X κ (tG (kE κ) θ σ) u w pc lv [.int x] := by
  subst he
  exact x_ireturn hκ hr dg ⟨x, rfl, σ, rfl, h⟩
theorem t_retz {ret : FieldType} {q : Int32 → TS → Prop} (hκ : Ok κ cc RX8 d) (hr : Rets κ (some ret) (pI (fun r G => ∃ σ' : TS, G = tG (kE κ) θ σ' ∧ q r σ'))) (he : ret = .boolean) {x : Int32} {u w : Nat} (dg : decode cc pc = .ok (.ireturn, 1)) (hx : x = 0 ∨ x = 1) (h : q x σ) : X κ (tG (kE κ) θ σ) u w pc lv [.int x] := by
  subst he
  exact x_zreturn hκ hr dg hx ⟨x, rfl, σ, rfl, h⟩
theorem t_retv {q : TS → Prop} (hκ : Ok κ cc RX8 d) (hr : Rets κ none (pV (fun G => ∃ σ' : TS, G = tG (kE κ) θ σ' ∧ q σ'))) {u w : Nat} (dg : decode cc pc = .ok (.return_, 1)) (h : q σ) : X κ (tG (kE κ) θ σ) u w pc lv [] :=
  x_return hκ hr dg ⟨rfl, σ, rfl, h⟩
end TC

theorem fl8_0 : Cond.fieldLink RX8 7 RX8 (TX8 0).2.1 (TX8 0).2.2.1 ∈ lw_all := q1163
theorem fl8_1 : Cond.fieldLink RX8 128 RX8 (TX8 1).2.1 (TX8 1).2.2.1 ∈ lw_all := q1164
theorem fl8_2 : Cond.fieldLink RX8 13 RX8 (TX8 2).2.1 (TX8 2).2.2.1 ∈ lw_all := q1165
theorem fl8_3 : Cond.fieldLink RX8 16 RX8 (TX8 3).2.1 (TX8 3).2.2.1 ∈ lw_all := q1166
theorem fl8_4 : Cond.fieldLink RX8 19 RX8 (TX8 4).2.1 (TX8 4).2.2.1 ∈ lw_all := q1167
theorem fl8_5 : Cond.fieldLink RX8 22 RX8 (TX8 5).2.1 (TX8 5).2.2.1 ∈ lw_all := q1168
theorem fl8_6 : Cond.fieldLink RX8 25 RX8 (TX8 6).2.1 (TX8 6).2.2.1 ∈ lw_all := q1169
theorem fl8_7 : Cond.fieldLink RX8 28 RX8 (TX8 7).2.1 (TX8 7).2.2.1 ∈ lw_all := q1170
theorem fl8_8 : Cond.fieldLink RX8 31 RX8 (TX8 8).2.1 (TX8 8).2.2.1 ∈ lw_all := q1171
theorem fl8_9 : Cond.fieldLink RX8 132 RX8 (TX8 9).2.1 (TX8 9).2.2.1 ∈ lw_all := q1172
theorem fl8_10 : Cond.fieldLink RX8 135 RX8 (TX8 10).2.1 (TX8 10).2.2.1 ∈ lw_all := q1173
theorem fl8_11 : Cond.fieldLink RX8 34 RX8 (TX8 11).2.1 (TX8 11).2.2.1 ∈ lw_all := q1174
theorem fl8_12 : Cond.fieldLink RX8 158 RX8 (TX8 12).2.1 (TX8 12).2.2.1 ∈ lw_all := q1175
theorem fl8_13 : Cond.fieldLink RX8 161 RX8 (TX8 13).2.1 (TX8 13).2.2.1 ∈ lw_all := q1176
theorem fl8_14 : Cond.fieldLink RX8 37 RX8 (TX8 14).2.1 (TX8 14).2.2.1 ∈ lw_all := q1177
theorem fl8_15 : Cond.fieldLink RX8 146 RX8 (TX8 15).2.1 (TX8 15).2.2.1 ∈ lw_all := q1178
theorem fl8_16 : Cond.fieldLink RX8 40 RX8 (TX8 16).2.1 (TX8 16).2.2.1 ∈ lw_all := q1179
theorem fl8_17 : Cond.fieldLink RX8 43 RX8 (TX8 17).2.1 (TX8 17).2.2.1 ∈ lw_all := q1180
theorem fl8_18 : Cond.fieldLink RX8 46 RX8 (TX8 18).2.1 (TX8 18).2.2.1 ∈ lw_all := q1181
theorem fl8_19 : Cond.fieldLink RX8 177 RX8 (TX8 19).2.1 (TX8 19).2.2.1 ∈ lw_all := q1182
theorem fl8_20 : Cond.fieldLink RX8 49 RX8 (TX8 20).2.1 (TX8 20).2.2.1 ∈ lw_all := q1183
theorem fl8_21 : Cond.fieldLink RX8 196 RX8 (TX8 21).2.1 (TX8 21).2.2.1 ∈ lw_all := q1184
theorem fl8_22 : Cond.fieldLink RX8 200 RX8 (TX8 22).2.1 (TX8 22).2.2.1 ∈ lw_all := q1185
theorem fl8_23 : Cond.fieldLink RX8 209 RX8 (TX8 23).2.1 (TX8 23).2.2.1 ∈ lw_all := q1186
theorem fl8_24 : Cond.fieldLink RX8 215 RX8 (TX8 24).2.1 (TX8 24).2.2.1 ∈ lw_all := q1187
theorem fl8_25 : Cond.fieldLink RX8 224 RX8 (TX8 25).2.1 (TX8 25).2.2.1 ∈ lw_all := q1188
theorem fl8_26 : Cond.fieldLink RX8 53 RX8 (TX8 26).2.1 (TX8 26).2.2.1 ∈ lw_all := q1189
theorem fl8_27 : Cond.fieldLink RX8 56 RX8 (TX8 27).2.1 (TX8 27).2.2.1 ∈ lw_all := q1190
theorem fl8_28 : Cond.fieldLink RX8 59 RX8 (TX8 28).2.1 (TX8 28).2.2.1 ∈ lw_all := q1191
theorem fl8_29 : Cond.fieldLink RX8 62 RX8 (TX8 29).2.1 (TX8 29).2.2.1 ∈ lw_all := q1192
theorem fl8_30 : Cond.fieldLink RX8 65 RX8 (TX8 30).2.1 (TX8 30).2.2.1 ∈ lw_all := q1193
theorem fl8_31 : Cond.fieldLink RX8 68 RX8 (TX8 31).2.1 (TX8 31).2.2.1 ∈ lw_all := q1194
theorem fl8_32 : Cond.fieldLink RX8 71 RX8 (TX8 32).2.1 (TX8 32).2.2.1 ∈ lw_all := q1195
theorem fl8_33 : Cond.fieldLink RX8 74 RX8 (TX8 33).2.1 (TX8 33).2.2.1 ∈ lw_all := q1196
theorem fl8_34 : Cond.fieldLink RX8 77 RX8 (TX8 34).2.1 (TX8 34).2.2.1 ∈ lw_all := q1197
theorem fl8_35 : Cond.fieldLink RX8 80 RX8 (TX8 35).2.1 (TX8 35).2.2.1 ∈ lw_all := q1198
theorem fl8_36 : Cond.fieldLink RX8 240 RX8 (TX8 36).2.1 (TX8 36).2.2.1 ∈ lw_all := q1199
theorem fl8_37 : Cond.fieldLink RX8 266 RX8 (TX8 37).2.1 (TX8 37).2.2.1 ∈ lw_all := q1200
theorem fl8_38 : Cond.fieldLink RX8 221 RX8 (TX8 38).2.1 (TX8 38).2.2.1 ∈ lw_all := q1201
theorem fl8_39 : Cond.fieldLink RX8 272 RX8 (TX8 39).2.1 (TX8 39).2.2.1 ∈ lw_all := q1202
theorem fl8_40 : Cond.fieldLink RX8 83 RX8 (TX8 40).2.1 (TX8 40).2.2.1 ∈ lw_all := q1203
theorem fl8_41 : Cond.fieldLink RX8 86 RX8 (TX8 41).2.1 (TX8 41).2.2.1 ∈ lw_all := q1204
theorem fl8_42 : Cond.fieldLink RX8 89 RX8 (TX8 42).2.1 (TX8 42).2.2.1 ∈ lw_all := q1205
theorem fl8_43 : Cond.fieldLink RX8 92 RX8 (TX8 43).2.1 (TX8 43).2.2.1 ∈ lw_all := q1206
theorem fl8_44 : Cond.fieldLink RX8 278 RX8 (TX8 44).2.1 (TX8 44).2.2.1 ∈ lw_all := q1207
theorem fl8_45 : Cond.fieldLink RX8 95 RX8 (TX8 45).2.1 (TX8 45).2.2.1 ∈ lw_all := q1208
theorem fl8_46 : Cond.fieldLink RX8 98 RX8 (TX8 46).2.1 (TX8 46).2.2.1 ∈ lw_all := q1209
theorem fl8_47 : Cond.fieldLink RX8 101 RX8 (TX8 47).2.1 (TX8 47).2.2.1 ∈ lw_all := q1210
theorem fl8_48 : Cond.fieldLink RX8 218 RX8 (TX8 48).2.1 (TX8 48).2.2.1 ∈ lw_all := q1211
theorem fl8_49 : Cond.fieldLink RX8 234 RX8 (TX8 49).2.1 (TX8 49).2.2.1 ∈ lw_all := q1212
theorem fl8_50 : Cond.fieldLink RX8 237 RX8 (TX8 50).2.1 (TX8 50).2.2.1 ∈ lw_all := q1213
theorem fl8_51 : Cond.fieldLink RX8 247 RX8 (TX8 51).2.1 (TX8 51).2.2.1 ∈ lw_all := q1214
theorem fl8_52 : Cond.fieldLink RX8 257 RX8 (TX8 52).2.1 (TX8 52).2.2.1 ∈ lw_all := q1215
theorem fl8_53 : Cond.fieldLink RX8 227 RX8 (TX8 53).2.1 (TX8 53).2.2.1 ∈ lw_all := q1216
theorem fl8_54 : Cond.fieldLink RX8 104 RX8 (TX8 54).2.1 (TX8 54).2.2.1 ∈ lw_all := q1217
theorem fl8_55 : Cond.fieldLink RX8 107 RX8 (TX8 55).2.1 (TX8 55).2.2.1 ∈ lw_all := q1218
theorem fl8_56 : Cond.fieldLink RX8 110 RX8 (TX8 56).2.1 (TX8 56).2.2.1 ∈ lw_all := q1219
theorem fl8_57 : Cond.fieldLink RX8 113 RX8 (TX8 57).2.1 (TX8 57).2.2.1 ∈ lw_all := q1220
theorem fl8_58 : Cond.fieldLink RX8 116 RX8 (TX8 58).2.1 (TX8 58).2.2.1 ∈ lw_all := q1221
theorem fl8_59 : Cond.fieldLink RX8 119 RX8 (TX8 59).2.1 (TX8 59).2.2.1 ∈ lw_all := q1222
theorem fl8_60 : Cond.fieldLink RX8 322 RX8 (TX8 60).2.1 (TX8 60).2.2.1 ∈ lw_all := q1223
