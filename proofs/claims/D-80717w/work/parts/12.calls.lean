/-! calls -/
theorem gK.same {E : gE} {u U : State} (hv : u.vm = U.vm) (h : gK E u) : gK E U := ⟨va_K.moved (by rw [hv]; exact Vm.Alike.refl U.vm) h.1, fun w hw hn => va_Nw.same (nwW_tab hn) hv (h.2 w hw hn)⟩
def pI (q : Int32 → gH → Prop) : Option Value → gH → Prop := fun v G => ∃ r : Int32, v = some (.int r) ∧ q r G
def pV (q : gH → Prop) : Option Value → gH → Prop := fun v G => v = none ∧ q G
def pR (q : Value → gH → Prop) : Option Value → gH → Prop := fun v G => ∃ r : Value, v = some r ∧ q r G
section XC
variable {κ : Kx} {G : gH} {u w pc d : Nat} {lv : List (Option Value)} {st : List Value} {cc : ByteArray} {own : String}
theorem x_after {H : Heap} {locs : List Loc} {ls : Array Slot} {i j mc ms : Nat} {rest : List Value} {q : Option Value → gH → Prop} {a : Array Value} (hS : va_S (kA κ) (ks κ).heap H locs) (hl : lv_has ls (kL κ) (lo lv)) (hi : i + (u + mc) ≤ (kR κ).cells) (hj : j + (w + ms) ≤ (kR κ).slots)
    (hr : va_Run (kp κ) (kl κ) (ke κ) (kR κ) (ks κ) (km κ) (ka κ) (kb κ) (kme κ) (kc κ) H locs i j mc ms (F0 (km κ) pc ls st) rest (gQ (kE κ) (kA κ) q a) (kA κ)) (kk : ∀ (v : Option Value) (G' : gH), q v G' → X κ G' u w (pc + 3) lv (v.toList ++ rest)) : kW κ H locs i j (F0 (km κ) pc ls st) := by
  intro T hT XX
  obtain ⟨v, st₀, t, T', L, h0, X', hL, e1, e2, ⟨⟨v', G', hv, hp, hP', hI'⟩, hz, hk⟩, stp⟩ := hr T hT XX
  cases hv
  rw [h0] at hz hk
  rw [← e1] at hP' hz hk
  obtain ⟨t2, a1, b1⟩ := kk v G' hp T'.heap (locs ++ L) ls (i + mc) (j + ms) hP' hI'
    ⟨Nat.le_trans hS.1 hz, fun q h1 h2 => by rw [hk q (Nat.lt_of_lt_of_le h1 hS.1) h2]; exact hS.2.1 q h1 h2, fun q hq => by
      rcases List.mem_append.mp hq with h | h
      · exact hS.2.2 q h
      · exact hL q h⟩ hl (by omega) (by omega) T' rfl X'
  exact ⟨t2, stp t2 a1, b1⟩
theorem x_pre {H : Heap} {locs : List Loc} (hκ : Ok κ cc own d) (hP : gP (kE κ) G H) (hI : gIn (kA κ) G) (hS : va_S (kA κ) (ks κ).heap H locs) (av : List Value) : PreS (ks κ) H (va_Pc av (fun U => (gK (kE κ) U ∧ gZ (kE κ) (kA κ) U) ∧ (∀ q, U.heap.size ≤ q → kA κ q) ∧ gP (kE κ) G U.heap ∧ gIn (kA κ) G)) av :=
  ⟨fun a U g mk q => by obtain ⟨q0, ⟨q1, qz⟩, q2, q3, q4⟩ := q; exact ⟨q0, ⟨gK.same (u := U) (U := U.calling g mk a) rfl q1, gZ.moved (u := U) (U := U.calling g mk a) (Vm.Alike.refl U.vm) (fun _ _ _ => rfl) qz⟩, q2, q3, q4⟩,
   fun U hU hW => ⟨rfl, ⟨gK.moved hW hκ.2.2.2.2.2.2.1, gZ.moved hW.alike (fun q h1 h2 => by rw [hU]; exact hS.2.1 q h1 h2) hκ.2.2.2.2.2.2.2.2.2.2⟩, fun q hq => hκ.2.2.2.2.2.2.2.1 q (Nat.le_trans hS.1 (by rw [← hU]; exact hq)), by rw [hU]; exact hP, hI⟩⟩
/-- invokevirtual of a method that the receiver's own class has -/
theorem x_callV (hκ : Ok κ cc own d) {y : MethodName} {cc' : ByteArray} {nL' : Nat} {ret' : Option FieldType} {d' mc ms b idx : Nat} {As rest : List Value} {C : String} {q : Option Value → gH → Prop} (hM : CM (kE κ) y cc' nL' ret' d' mc ms (.ref b :: As) G q) (hd : d' < d) (hL : nL' ≤ 45) (hw : GoodIn lw_all (wsV own idx C y (ws_ y cc' nL' ret')))
    (ha : y.cls = C ∧ y.cls ≠ "java/lang/invoke/MethodHandle" ∧ y.cls ≠ "java/lang/invoke/VarHandle" ∧ (parseMethodDescriptor y.desc).map (fun d => d.parameters.length) = some As.length) {ci N : Nat} {T : u_T} {fs : List Value} (he : G b = some (.inr (ci, fs))) (hc : clAll[ci]? = some (C, T, N)) (hst : st = As.reverse ++ .ref b :: rest) (hrest : (rest.map fun v => v.category).sum ≤ 8) (dg : decode cc pc = .ok (.invokevirtual idx, 3))
    (kk : ∀ (v : Option Value) (G' : gH), q v G' → X κ G' u w (pc + 3) lv (v.toList ++ rest)) : X κ G (u + mc) (w + ms) pc lv st := fun H locs ls i j hP hI hS hl hi hj => by
  obtain ⟨p0, hp0⟩ := gl_at hP he
  have hpre := x_pre hκ hP hI hS (.ref b :: As)
  refine x_after hS hl hi hj (va_runV (As := As) (rest := rest) (C := C) ⟨hκ.1, hκ.2.1, hκ.2.2.1, hκ.2.2.2.1, hκ.2.2.2.2.1⟩ (hM (kl κ) (kA κ)) (cwV As.length hκ.2.2.2.2.1 hw rfl rfl rfl ha ⟨?_, ?_⟩) ⟨hpre.1, va_recv hκ.2.2.2.2.2.2.1.1 (gl_P hP H.size) hc hp0, hpre.2⟩ rfl rfl hl.1 hst (lv_room hrest) dg ⟨by omega, by omega⟩) kk
  · rw [hκ.2.2.2.2.2.2.2.2.1]; exact hd
  · rw [hκ.2.2.2.2.2.2.2.2.2.1]; show 8 + (nL' + 11) + 64 * d' ≤ 64 * d; omega
theorem x_callS (hκ : Ok κ cc own d) {y : MethodName} {cc' : ByteArray} {nL' : Nat} {ret' : Option FieldType} {d' mc ms idx : Nat} {As rest : List Value} {q : Option Value → gH → Prop} (hM : CM (kE κ) y cc' nL' ret' d' mc ms As G q) (hd : d' < d) (hL : nL' ≤ 45) (hw : GoodIn lw_all (va_wsS own idx y (ws_ y cc' nL' ret')))
    (ha : y.cls ≠ "java/lang/invoke/MethodHandle" ∧ y.cls ≠ "java/lang/invoke/VarHandle" ∧ (parseMethodDescriptor y.desc).map (fun d => d.parameters.length) = some As.length) (hst : st = As.reverse ++ rest) (hrest : (rest.map fun v => v.category).sum ≤ 8) (dg : decode cc pc = .ok (.invokestatic idx, 3))
    (kk : ∀ (v : Option Value) (G' : gH), q v G' → X κ G' u w (pc + 3) lv (v.toList ++ rest)) : X κ G (u + mc) (w + ms) pc lv st := fun H locs ls i j hP hI hS hl hi hj => by
  refine x_after hS hl hi hj (va_runS (As := As) (rest := rest) ⟨hκ.1, hκ.2.1, hκ.2.2.1, hκ.2.2.2.1, hκ.2.2.2.2.1⟩ (hM (kl κ) (kA κ)) (va_cwS As.length hκ.2.2.2.2.1 hw rfl rfl rfl ha ⟨?_, ?_⟩) (x_pre hκ hP hI hS As) rfl rfl hl.1 hst (lv_room hrest) dg ⟨by omega, by omega⟩) kk
  · rw [hκ.2.2.2.2.2.2.2.2.1]; exact hd
  · rw [hκ.2.2.2.2.2.2.2.2.2.1]; show 8 + (nL' + 11) + 64 * d' ≤ 64 * d; omega
theorem x_callI (hκ : Ok κ cc own d) {y : MethodName} {cc' : ByteArray} {nL' : Nat} {d' mc ms b idx : Nat} {As rest : List Value} {q : Option Value → gH → Prop} (hM : CM (kE κ) y cc' nL' none d' mc ms (.ref b :: As) G q) (hd : d' < d) (hL : nL' ≤ 45) (hw : Cond.code y cc' nL' none ∈ lw_all) (hini : Cond.initialized y.cls ∈ lw_all) (hlk : Cond.methodLink own idx y ∈ lw_all) (hinst : Cond.instanceMethod y ∈ lw_all) (hyn : y.name = "<init>")
    (ha : y.cls ≠ "java/lang/invoke/MethodHandle" ∧ y.cls ≠ "java/lang/invoke/VarHandle" ∧ (parseMethodDescriptor y.desc).map (fun d => d.parameters.length) = some As.length) (hst : st = As.reverse ++ .ref b :: rest) (hrest : (rest.map fun v => v.category).sum ≤ 8) (dg : decode cc pc = .ok (.invokespecial idx, 3))
    (kk : ∀ (v : Option Value) (G' : gH), q v G' → X κ G' u w (pc + 3) lv (v.toList ++ rest)) : X κ G (u + mc) (w + ms) pc lv st := fun H locs ls i j hP hI hS hl hi hj => by
  have h := hκ.2.2.2.2.1
  refine x_after hS hl hi hj (va_runI (As := As) (rest := rest) ⟨hκ.1, hκ.2.1, hκ.2.2.1, hκ.2.2.2.1, h⟩ (hM (kl κ) (kA κ)) (cwI As.length h (lw_meth hw) rfl rfl rfl (h _ hini) (h _ hlk) (h _ hinst) hyn ha ⟨?_, ?_⟩) (x_pre hκ hP hI hS (.ref b :: As)) rfl rfl hl.1 hst (lv_room hrest) dg ⟨by omega, by omega⟩) kk
  · rw [hκ.2.2.2.2.2.2.2.2.1]; exact hd
  · rw [hκ.2.2.2.2.2.2.2.2.2.1]; show 8 + (nL' + 11) + 64 * d' ≤ 64 * d; omega
/-- Object's constructor does nothing -/
theorem x_objInit (hκ : Ok κ cc own d) {idx b : Nat} {rest : List Value} (hlk : Cond.methodLink own idx Lib.objectInit ∈ lw_all) (hinst : Cond.instanceMethod Lib.objectInit ∈ lw_all) (hcode : Cond.code Lib.objectInit ⟨#[0xb1]⟩ 1 none ∈ lw_all) (hd : 0 < d) (hrest : (rest.map fun v => v.category).sum ≤ 8) (dg : decode cc pc = .ok (.invokespecial idx, 3)) (kk : X κ G u w (pc + 3) lv rest) : X κ G u w pc lv (.ref b :: rest) := fun H locs ls i j hP hI hS hl hi hj => by
  have h := hκ.2.2.2.2.1
  refine W.objInit hκ.1 hκ.2.1 hκ.2.2.2.1 (h _ hlk) (h _ hinst) (h _ hcode) rfl (by rw [hκ.2.2.1]; exact hl.1) rfl dg ?_ ?_ (kk H locs ls i j hP hI hS hl hi hj)
  · rw [hκ.2.2.2.2.2.2.2.2.1]; exact hd
  · have h2 := lv_room (m := km κ) (pc := pc) (ls := ls) (rest := .ref b :: rest) hrest
    rw [hκ.2.2.2.2.2.2.2.2.2.1]
    omega
end XC
