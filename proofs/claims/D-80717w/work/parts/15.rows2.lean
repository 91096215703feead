/-! more rows: arrays are made, fields of nest mates, arrays of references, casts, calls through an interface -/
abbrev aR (n : Nat) (f : Nat → Option Nat) : vp_A := (n, .inr (.inr (.inr (.inr f))))
section XR2
variable {κ : Kx} {G : gH} {u w pc d : Nat} {lv : List (Option Value)} {st : List Value} {cc : ByteArray} {own : String}
theorem Ok.nw (hκ : Ok κ cc own d) {w : Cond} (h : w ∈ lw_tbl) (hn : nwW w = true) : va_Nw w (ks κ) := hκ.2.2.2.2.2.2.1.2 w h hn
theorem Ok.z (hκ : Ok κ cc own d) : gZ (kE κ) (kA κ) (ks κ) := hκ.2.2.2.2.2.2.2.2.2.2
theorem Ok.k (hκ : Ok κ cc own d) : va_K (kE κ).1 clAll (tysAll (kE κ)) (ks κ) := hκ.2.2.2.2.2.2.1.1
theorem x_newa (hκ : Ok κ cc own d) {atype : ArrayType} {ty : FieldType} (harr : Cond.arrayClass (newarray.typeOf atype) ∈ lw_all) (hty : newarray.typeOf atype = ty) {t : Nat} {cT : ClassId} (ht : (tysAll (kE κ))[t]? = some (cT, ty)) (hno : ∀ C, ty ≠ .object C) {n : Int32} {N : Nat} {a0 : vp_A} (ha : ∀ cA : ClassId, vp_cell cA a0 = arrV cA N (fun _ => defaultValue ty)) (hn : ¬ n < 0) (hN : n.toNatClampNeg = N) (hb : N * componentBytes ty ≤ 536870912) (dg : decode cc pc = .ok (.newarray atype, 2))
    (kk : ∀ q : Nat, G q = none → X κ (gU G q (.inl (cT, a0))) u w (pc + 2) lv (.ref q :: st)) : X κ G (u + 1) (w + N) pc lv (.int n :: st) := fun H locs ls i j hP hI hS hl hi hj => by
  refine va_newa hκ.1 hκ.2.1 (hκ.2.2.2.2.1 _ harr) hty hκ.k (gl_P hP H.size) (gl_D hI H.size) hS hκ.2.2.2.2.2.2.2.1 ha hn hN hb (by omega) (by omega) dg (fun q cA H1 hK1 hP1 hD1 hS1 => ?_)
  have e1 := (hK1.2 (tysAll (kE κ)).length (cA, ty) (by rw [List.getElem?_append_right (Nat.le_refl _), Nat.sub_self]; rfl)).2
  have e2 := (hκ.k.2 t _ ht).2
  have e3 : cT = cA := by
    cases ty with
    | object C => exact absurd rfl (hno C)
    | _ => exact Option.some.inj (e2.symm.trans e1)
  subst e3
  exact kk q (gl_fresh hP hD1) H1 locs ls (i + 1) (j + N) (gl_push hP hP1) (gIn_U hI (hD1.2 (gl G H.size).length (q, _) (by rw [List.getElem?_append_right (Nat.le_refl _), Nat.sub_self]; rfl))) hS1 hl (by omega) (by omega)
theorem x_anew (hκ : Ok κ cc own d) {C : String} {index : Nat} (hcl : Cond.classLink own index C ∈ lw_all) (hC : C ∈ ["java/lang/Object", RX16, RX2, RX3, RX7]) {t : Nat} {cT : ClassId} (ht : (tysAll (kE κ))[t]? = some (cT, .object C)) {n : Int32} {N : Nat} (hn : ¬ n < 0) (hN : n.toNatClampNeg = N) (hb : N * 4 ≤ 536870912) (dg : decode cc pc = .ok (.anewarray index, 3))
    (kk : ∀ q : Nat, G q = none → X κ (gU G q (.inl (cT, aR N (fun _ => none)))) u w (pc + 3) lv (.ref q :: st)) : X κ G (u + 1) (w + N) pc lv (.int n :: st) := fun H locs ls i j hP hI hS hl hi hj => by
  refine va_newq hκ.1 hκ.2.1 hκ.2.2.2.1 (hκ.2.2.2.2.1 _ hcl) (hκ.z.2.2.2.2.2.2 C hC) hκ.k (gl_P hP H.size) (gl_D hI H.size) hS hκ.2.2.2.2.2.2.2.1 hn hN hb (by omega) (by omega) dg (fun q cA H1 hK1 hP1 hD1 hS1 => ?_)
  obtain ⟨-, -, -, -, -, e1⟩ := (hK1.2 (tysAll (kE κ)).length (cA, .object C) (by rw [List.getElem?_append_right (Nat.le_refl _), Nat.sub_self]; rfl)).2
  obtain ⟨-, -, -, -, -, e2⟩ := (hκ.k.2 t _ ht).2
  have e3 : cT = cA := Option.some.inj (e2.symm.trans e1)
  subst e3
  exact kk q (gl_fresh hP hD1) H1 locs ls (i + 1) (j + N) (gl_push hP hP1) (gIn_U hI (hD1.2 (gl G H.size).length (q, _) (by rw [List.getElem?_append_right (Nat.le_refl _), Nat.sub_self]; rfl))) hS1 hl (by omega) (by omega)
theorem x_getN (hκ : Ok κ cc own d) {ref C host : String} {T : u_T} {N ci index a : Nat} (hin : ∀ w ∈ u_ws C T N, w ∈ lw_all) {fs : List Value} (he : G a = some (.inr (ci, fs))) (hc : clAll[ci]? = some (C, T, N)) (k : Nat) (hk : k < N) (hlink : Cond.fieldLinkNest own index ref (T k).2.1 (T k).2.2.1 host ∈ lw_tbl) (href : (T k).1 = ref) {v : Value} (hv : fs[k]? = some v) (dg : decode cc pc = .ok (.getfield index, 3))
    (kk : X κ G u w (pc + 3) lv (v :: st)) : X κ G u w pc lv (.ref a :: st) := fun H locs ls i j hP hI hS hl hi hj => by
  obtain ⟨q, hq⟩ := gl_at hP he
  exact va_getN hκ.1 hκ.2.1 hκ.2.2.2.2.1 hin hκ.2.2.2.1 hκ.k (gl_P hP H.size) q hq hc k hk (va_Nw.use rfl (hκ.nw hlink rfl)) (fun x hx => by rw [← href]; exact hx) hv dg (kk H locs ls i j hP hI hS hl hi hj)
theorem x_putN (hκ : Ok κ cc own d) {ref C host : String} {T : u_T} {N ci index a : Nat} (hin : ∀ w ∈ u_ws C T N, w ∈ lw_all) (ty0 : Nat → FieldType) (hty : ∀ k, k < N → parseFieldDescriptor (T k).2.2.1 = some (ty0 k)) (hnm : ∀ a, a < N → ∀ b, b < N → a ≠ b → (T a).2.1 ≠ (T b).2.1) {fs : List Value} (he : G a = some (.inr (ci, fs))) (hc : clAll[ci]? = some (C, T, N)) (k : Nat) (hk : k < N) (hlink : Cond.fieldLinkNest own index ref (T k).2.1 (T k).2.2.1 host ∈ lw_tbl) (href : (T k).1 = ref) (hfin : (T k).2.2.2 = false) {ty : FieldType} {v : Value} (hd : ty0 k = ty) (hn : narrow ty v = v) (hfit : fits ty v = true) (hl0 : k < fs.length) (dg : decode cc pc = .ok (.putfield index, 3))
    (kk : X κ (gU G a (.inr (ci, fs.set k v))) u w (pc + 3) lv st) : X κ G u w pc lv (v :: .ref a :: st) := fun H locs ls i j hP hI hS hl hi hj => by
  obtain ⟨q, hq⟩ := gl_at hP he
  exact va_putN hκ.1 hκ.2.1 hκ.2.2.2.2.1 hin ty0 hty hnm hκ.2.2.2.1 hκ.k (gl_P hP H.size) (gl_D hI H.size) hS q hq hc k hk (va_Nw.use rfl (hκ.nw hlink rfl)) (fun x hx => by rw [← href]; exact hx) hfin (by rw [hty k hk, hd]) hn hfit hl0 dg
    (fun H1 locs1 hP1 _ hS1 => kk H1 locs1 ls i j (gl_set hP hq hP1) (gIn_U hI (hI a _ he)) hS1 hl hi hj)
/-! arrays of references -/
theorem x_aald (hκ : Ok κ cc own d) {a n t : Nat} {cA : ClassId} {C : String} {f : Nat → Option Nat} {x : Int32} (he : G a = some (.inl (cA, aR n f))) (ht : (tysAll (kE κ))[t]? = some (cA, .object C)) (hx : vp_in x n) {v : Option Nat} (hv : f x.toNatClampNeg = v) (dg : decode cc pc = .ok (.aaload, 1)) (kk : X κ G u w (pc + 1) lv (va_rf v :: st)) : X κ G u w pc lv (.int x :: .ref a :: st) := fun H locs ls i j hP hI hS hl hi hj => by
  obtain ⟨q, hq⟩ := gl_at hP he
  subst hv
  exact va_aldq hκ.1 hκ.2.1 hκ.k (gl_P hP H.size) q t hq ht hx dg (kk H locs ls i j hP hI hS hl hi hj)
/-- an object is stored in an array of Object -/
theorem x_aastO (hκ : Ok κ cc own d) {a n t v ci : Nat} {cA : ClassId} {E : String} {r : vw_C} {f : Nat → Option Nat} {x : Int32} {vs : List Value} (he : G a = some (.inl (cA, aR n f))) (ht : (tysAll (kE κ))[t]? = some (cA, .object E)) (hv : G v = some (.inr (ci, vs))) (hc : clAll[ci]? = some r) (hca : Cond.castable r.1 E ∈ lw_tbl) (hx : vp_in x n) {z : Nat} (hz : x.toNatClampNeg = z) (dg : decode cc pc = .ok (.aastore, 1)) (kk : X κ (gU G a (.inl (cA, aR n (va_up f z (some v))))) u w (pc + 1) lv st) : X κ G u w pc lv (.ref v :: .int x :: .ref a :: st) := fun H locs ls i j hP hI hS hl hi hj => by
  obtain ⟨q, hq⟩ := gl_at hP he
  obtain ⟨q2, hq2⟩ := gl_at hP hv
  subst hz
  exact va_astqO hκ.1 hκ.2.1 hκ.k (gl_P hP H.size) (gl_D hI H.size) hS q t q2 ci hq ht (hκ.nw hca rfl) hq2 hc hx dg (fun H1 locs1 hP1 _ hS1 => kk H1 locs1 ls i j (gl_set hP hq hP1) (gIn_U hI (hI a _ he)) hS1 hl hi hj)
/-- an object is stored in an array of its own class -/
theorem x_aastS (hκ : Ok κ cc own d) {a n t v ci : Nat} {cA : ClassId} {r : vw_C} {f : Nat → Option Nat} {x : Int32} {vs : List Value} (he : G a = some (.inl (cA, aR n f))) (ht : (tysAll (kE κ))[t]? = some (cA, .object r.1)) (hv : G v = some (.inr (ci, vs))) (hc : clAll[ci]? = some r) (hx : vp_in x n) {z : Nat} (hz : x.toNatClampNeg = z) (dg : decode cc pc = .ok (.aastore, 1)) (kk : X κ (gU G a (.inl (cA, aR n (va_up f z (some v))))) u w (pc + 1) lv st) : X κ G u w pc lv (.ref v :: .int x :: .ref a :: st) := fun H locs ls i j hP hI hS hl hi hj => by
  obtain ⟨q, hq⟩ := gl_at hP he
  obtain ⟨q2, hq2⟩ := gl_at hP hv
  subst hz
  exact va_astq hκ.1 hκ.2.1 hκ.k (gl_P hP H.size) (gl_D hI H.size) hS q t q2 ci hq ht hq2 hc hx dg (fun H1 locs1 hP1 _ hS1 => kk H1 locs1 ls i j (gl_set hP hq hP1) (gIn_U hI (hI a _ he)) hS1 hl hi hj)
theorem x_aastN (hκ : Ok κ cc own d) {a n t : Nat} {cA : ClassId} {C : String} {f : Nat → Option Nat} {x : Int32} (he : G a = some (.inl (cA, aR n f))) (ht : (tysAll (kE κ))[t]? = some (cA, .object C)) (hx : vp_in x n) {z : Nat} (hz : x.toNatClampNeg = z) (dg : decode cc pc = .ok (.aastore, 1)) (kk : X κ (gU G a (.inl (cA, aR n (va_up f z none)))) u w (pc + 1) lv st) : X κ G u w pc lv (.null :: .int x :: .ref a :: st) := fun H locs ls i j hP hI hS hl hi hj => by
  obtain ⟨q, hq⟩ := gl_at hP he
  subst hz
  exact va_astqN hκ.1 hκ.2.1 hκ.k (gl_P hP H.size) (gl_D hI H.size) hS q t hq ht hx dg (fun H1 locs1 hP1 _ hS1 => kk H1 locs1 ls i j (gl_set hP hq hP1) (gIn_U hI (hI a _ he)) hS1 hl hi hj)
/-! casts -/
theorem x_castE (hκ : Ok κ cc own d) {a ci index N : Nat} {C : String} {T : u_T} {fs : List Value} (hlink : Cond.classLink own index C ∈ lw_all) (he : G a = some (.inr (ci, fs))) (hc : clAll[ci]? = some (C, T, N)) (dg : decode cc pc = .ok (.checkcast index, 3)) (kk : X κ G u w (pc + 3) lv (.ref a :: st)) : X κ G u w pc lv (.ref a :: st) := fun H locs ls i j hP hI hS hl hi hj => by
  obtain ⟨q, hq⟩ := gl_at hP he
  exact va_castE hκ.1 hκ.2.1 hκ.2.2.2.1 (hκ.2.2.2.2.1 _ hlink) (va_recv hκ.k (gl_P hP H.size) hc hq) dg (kk H locs ls i j hP hI hS hl hi hj)
theorem x_castN (hκ : Ok κ cc own d) {index : Nat} (dg : decode cc pc = .ok (.checkcast index, 3)) (kk : X κ G u w (pc + 3) lv (.null :: st)) : X κ G u w pc lv (.null :: st) := fun H locs ls i j hP hI hS hl hi hj => lv_castN hκ.1 hκ.2.1 dg (kk H locs ls i j hP hI hS hl hi hj)
theorem x_instN (hκ : Ok κ cc own d) {index : Nat} (dg : decode cc pc = .ok (.instanceof index, 3)) (kk : X κ G u w (pc + 3) lv (.int 0 :: st)) : X κ G u w pc lv (.null :: st) := fun H locs ls i j hP hI hS hl hi hj => lv_instN hκ.1 hκ.2.1 dg (kk H locs ls i j hP hI hS hl hi hj)
theorem va_cellA (cA : ClassId) (x : vp_A) : (vp_cell cA x).vm = .none ∧ (vp_cell cA x).cls = cA := by
  obtain ⟨n, f | f | f | f | f⟩ := x <;> exact ⟨rfl, rfl⟩
/-- an array of numbers is of the class of that name -/
theorem x_recvA (hκ : Ok κ cc own d) {a t : Nat} {cA : ClassId} {ty : FieldType} {nm : String} {x : vp_A} {H : Heap} (hP : gP (kE κ) G H) (he : G a = some (.inl (cA, x))) (ht : (tysAll (kE κ))[t]? = some (cA, ty)) (hnm : "[" ++ ty.toString = nm) : ∃ cell : Cell, H[a]? = some cell ∧ cell.vm.isStatics = false ∧ (ks κ).vm.findClass nm = some cell.cls := by
  have h := hP a _ he
  refine ⟨_, h, by rw [(va_cellA cA x).1]; rfl, ?_⟩
  show _ = some (vp_cell cA x).cls
  rw [(va_cellA cA x).2, ← hnm]
  have h2 := (hκ.k.2 t _ ht).2
  cases ty with
  | object C => obtain ⟨-, -, -, -, -, e⟩ := h2; exact e
  | _ => exact h2
theorem x_castA (hκ : Ok κ cc own d) {a t index : Nat} {cA : ClassId} {ty : FieldType} {nm : String} {x : vp_A} (hlink : Cond.classLink own index nm ∈ lw_all) (he : G a = some (.inl (cA, x))) (ht : (tysAll (kE κ))[t]? = some (cA, ty)) (hnm : "[" ++ ty.toString = nm) (dg : decode cc pc = .ok (.checkcast index, 3)) (kk : X κ G u w (pc + 3) lv (.ref a :: st)) : X κ G u w pc lv (.ref a :: st) := fun H locs ls i j hP hI hS hl hi hj =>
  va_castE hκ.1 hκ.2.1 hκ.2.2.2.1 (hκ.2.2.2.2.1 _ hlink) (x_recvA hκ hP he ht hnm) dg (kk H locs ls i j hP hI hS hl hi hj)
theorem x_instA (hκ : Ok κ cc own d) {a t index : Nat} {cA : ClassId} {ty : FieldType} {nm : String} {x : vp_A} (hlink : Cond.classLink own index nm ∈ lw_all) (he : G a = some (.inl (cA, x))) (ht : (tysAll (kE κ))[t]? = some (cA, ty)) (hnm : "[" ++ ty.toString = nm) (dg : decode cc pc = .ok (.instanceof index, 3)) (kk : X κ G u w (pc + 3) lv (.int 1 :: st)) : X κ G u w pc lv (.ref a :: st) := fun H locs ls i j hP hI hS hl hi hj =>
  va_instE hκ.1 hκ.2.1 hκ.2.2.2.1 (hκ.2.2.2.2.1 _ hlink) (x_recvA hκ hP he ht hnm) dg (kk H locs ls i j hP hI hS hl hi hj)
theorem x_instNo (hκ : Ok κ cc own d) {a t index : Nat} {cA : ClassId} {ty : FieldType} {C nm : String} {x : vp_A} (hlink : Cond.classLink own index nm ∈ lw_all) (he : G a = some (.inl (cA, x))) (ht : (tysAll (kE κ))[t]? = some (cA, ty)) (hnm : "[" ++ ty.toString = C) (hno : (C, nm) ∈ ncL) (dg : decode cc pc = .ok (.instanceof index, 3)) (kk : X κ G u w (pc + 3) lv (.int 0 :: st)) : X κ G u w pc lv (.ref a :: st) := fun H locs ls i j hP hI hS hl hi hj =>
  va_instNo hκ.1 hκ.2.1 hκ.2.2.2.1 (hκ.2.2.2.2.1 _ hlink) (hκ.z.2.2.2.2.2.1 _ hno) (x_recvA hκ hP he ht hnm) dg (kk H locs ls i j hP hI hS hl hi hj)
theorem x_acmp_eq (hκ : Ok κ cc own d) {x y : Nat} {off : Int} {tgt : Nat} (dg : decode cc pc = .ok (.if_acmp .eq off, 3)) (ht : (pc : Int) + off = (tgt : Int)) (kt : x = y → X κ G u w tgt lv st) (kf : ¬ x = y → X κ G u w (pc + 3) lv st) : X κ G u w pc lv (.ref y :: .ref x :: st) := fun H locs ls i j hP hI hS hl hi hj => lv_acmp_eq (rx := some x) (ry := some y) hκ.1 hκ.2.1 dg ht (fun z => kt (Option.some.inj z) H locs ls i j hP hI hS hl hi hj) (fun z => kf (fun q => z (by rw [q])) H locs ls i j hP hI hS hl hi hj)
theorem x_acmp_ne (hκ : Ok κ cc own d) {x y : Nat} {off : Int} {tgt : Nat} (dg : decode cc pc = .ok (.if_acmp .ne off, 3)) (ht : (pc : Int) + off = (tgt : Int)) (kt : ¬ x = y → X κ G u w tgt lv st) (kf : x = y → X κ G u w (pc + 3) lv st) : X κ G u w pc lv (.ref y :: .ref x :: st) := fun H locs ls i j hP hI hS hl hi hj => lv_acmp_ne (rx := some x) (ry := some y) hκ.1 hκ.2.1 dg ht (fun z => kt (fun q => z (by rw [q])) H locs ls i j hP hI hS hl hi hj) (fun z => kf (Option.some.inj z) H locs ls i j hP hI hS hl hi hj)
/-! the empty array that all new lists share -/
theorem x_getsE (hκ : Ok κ cc own d) {ref : String} {index : Nat} (hlink : Cond.fieldLink own index ref "DEFAULTCAPACITY_EMPTY_ELEMENTDATA" "[Ljava/lang/Object;" ∈ lw_all) (href : "java/util/ArrayList" = ref) (dg : decode cc pc = .ok (.getstatic index, 3)) (kk : X κ G u w (pc + 3) lv (.ref ((kE κ).2 20) :: st)) : X κ G u w pc lv st := fun H locs ls i j hP hI hS hl hi hj =>
  va_gets hκ.1 hκ.2.1 hκ.z.1 hS hκ.2.2.2.1 (hκ.2.2.2.2.1 _ hlink) (fun x hx => by rw [← href]; exact hx) dg (kk H locs ls i j hP hI hS hl hi hj)
theorem x_alenE (hκ : Ok κ cc own d) (dg : decode cc pc = .ok (.arraylength, 1)) (kk : X κ G u w (pc + 1) lv (.int 0 :: st)) : X κ G u w pc lv (.ref ((kE κ).2 20) :: st) := fun H locs ls i j hP hI hS hl hi hj =>
  va_tlen hκ.1 hκ.2.1 hκ.z.2.1 hS rfl dg (kk H locs ls i j hP hI hS hl hi hj)
theorem gZ.ne (hκ : Ok κ cc own d) (hI : gIn (kA κ) G) : G ((kE κ).2 20) = none := by
  cases h : G ((kE κ).2 20) with
  | none => rfl
  | some e =>
    obtain ⟨_, -, -, -, -, -, -, hn⟩ := hκ.z.2.1
    exact absurd (hI _ _ h) hn
/-- the shared array is none of the cells -/
theorem x_noE (hκ : Ok κ cc own d) (kk : G ((kE κ).2 20) = none → X κ G u w pc lv st) : X κ G u w pc lv st := fun H locs ls i j hP hI hS hl hi hj => kk (gZ.ne hκ hI) H locs ls i j hP hI hS hl hi hj
/-- class objects -/
theorem x_ldcM (hκ : Ok κ cc own d) {index : Nat} (hlink : Cond.classLink own index "[Ljava/lang/Object;" ∈ lw_all) (dg : decode cc pc = .ok (.ldc index, 2)) (kk : X κ G u w (pc + 2) lv (.ref ((kE κ).2 21) :: st)) : X κ G u w pc lv st := fun H locs ls i j hP hI hS hl hi hj =>
  va_ldcM hκ.1 hκ.2.1 hκ.2.2.2.1 (hκ.2.2.2.2.1 _ hlink) hκ.z.2.2.2.2.1 dg (kk H locs ls i j hP hI hS hl hi hj)
/-! calls through an interface; calls of a nest mate's private method -/
theorem x_after5 {H : Heap} {locs : List Loc} {ls : Array Slot} {i j mc ms : Nat} {rest : List Value} {q : Option Value → gH → Prop} {a : Array Value} (hS : va_S (kA κ) (ks κ).heap H locs) (hl : lv_has ls (kL κ) (lo lv)) (hi : i + (u + mc) ≤ (kR κ).cells) (hj : j + (w + ms) ≤ (kR κ).slots)
    (hr : va_Run5 (kp κ) (kl κ) (ke κ) (kR κ) (ks κ) (km κ) (ka κ) (kb κ) (kme κ) (kc κ) H locs i j mc ms (F0 (km κ) pc ls st) rest (gQ (kE κ) (kA κ) q a) (kA κ)) (kk : ∀ (v : Option Value) (G' : gH), q v G' → X κ G' u w (pc + 5) lv (v.toList ++ rest)) : kW κ H locs i j (F0 (km κ) pc ls st) := by
  intro T hT XX
  obtain ⟨v, st₀, t, T', L, h0, X', hL, e1, e2, ⟨⟨v', G', hv, hp, hP', hI'⟩, hz, hk⟩, stp⟩ := hr T hT XX
  cases hv
  rw [h0] at hz hk
  rw [← e1] at hP' hz hk
  obtain ⟨t2, a1, b1⟩ := kk v G' hp T'.heap (locs ++ L) ls (i + mc) (j + ms) hP' hI'
    ⟨Nat.le_trans hS.1 hz, fun q h1 h2 => by rw [hk q (Nat.lt_of_lt_of_le h1 hS.1) h2]; exact hS.2.1 q h1 h2, fun q hq => by
      rcases List.mem_append.mp hq with h | h
      · exact hS.2.2 q h
      · exact hL q h⟩ hl (by omega) (by omega) T' rfl X'
  exact ⟨t2, stp t2 a1, b1⟩
theorem x_callF (hκ : Ok κ cc own d) {x y : MethodName} {cc' : ByteArray} {nL' : Nat} {ret' : Option FieldType} {d' mc ms b idx count : Nat} {As rest : List Value} {C : String} {q : Option Value → gH → Prop} (hM : CM (kE κ) y cc' nL' ret' d' mc ms (.ref b :: As) G q) (hd : d' < d) (hL : nL' ≤ 45) (hw : GoodIn lw_all (va_wsF own idx C x y (ws_ y cc' nL' ret')))
    (f1 : Cond.declares x ∈ lw_tbl) (f2 : Cond.interfaceMethod x.cls x.cls x.name x.desc ∈ lw_tbl) (f2' : nwW (Cond.interfaceMethod x.cls x.cls x.name x.desc) = true) (f3 : Cond.publicMethod y ∈ lw_tbl) (f4 : Cond.unhidden C x.name x.desc ∈ lw_tbl) (f5 : Cond.castable C x.cls ∈ lw_tbl)
    (ha : x.cls ≠ "java/lang/invoke/MethodHandle" ∧ x.cls ≠ "java/lang/invoke/VarHandle" ∧ (parseMethodDescriptor x.desc).map (fun d => d.parameters.length) = some As.length) {ci N : Nat} {T : u_T} {fs : List Value} (he : G b = some (.inr (ci, fs))) (hc : clAll[ci]? = some (C, T, N)) (hst : st = As.reverse ++ .ref b :: rest) (hrest : (rest.map fun v => v.category).sum ≤ 8) (dg : decode cc pc = .ok (.invokeinterface idx count, 5))
    (kk : ∀ (v : Option Value) (G' : gH), q v G' → X κ G' u w (pc + 5) lv (v.toList ++ rest)) : X κ G (u + mc) (w + ms) pc lv st := fun H locs ls i j hP hI hS hl hi hj => by
  obtain ⟨p0, hp0⟩ := gl_at hP he
  have hpre := x_pre hκ hP hI hS (.ref b :: As)
  have hF : va_Fw C x y (ks κ) := va_Fw.of (A := #[]) (hκ.nw f1 rfl) (hκ.nw f2 f2') (hκ.nw f3 rfl) (hκ.nw f4 rfl) (hκ.nw f5 rfl)
  refine x_after5 hS hl hi hj (va_runF (As := As) (rest := rest) (C := C) (hκ.k.1 ci _ hc).2 ⟨hκ.1, hκ.2.1, hκ.2.2.1, hκ.2.2.2.1, hκ.2.2.2.2.1⟩ (hM (kl κ) (kA κ)) (va_cwF As.length hκ.2.2.2.2.1 hw rfl rfl rfl hF ha ⟨?_, ?_⟩) ⟨hpre.1, va_recv hκ.k (gl_P hP H.size) hc hp0, hpre.2⟩ rfl rfl hl.1 hst (lv_room hrest) dg ⟨by omega, by omega⟩) kk
  · rw [hκ.2.2.2.2.2.2.2.2.1]; exact hd
  · rw [hκ.2.2.2.2.2.2.2.2.2.1]; show 8 + (nL' + 11) + 64 * d' ≤ 64 * d; omega
theorem lw_F {own : String} {idx : Nat} {C : String} {x y : MethodName} {b : ByteArray} {L : Nat} {r : Option FieldType} (h1 : Cond.methodLink own idx x ∈ lw_all) (h2 : Cond.selects C x y ∈ lw_all) (h3 : Cond.instanceMethod y ∈ lw_all) (h4 : Cond.initialized y.cls ∈ lw_all) (h5 : Cond.code y b L r ∈ lw_all) : GoodIn lw_all (va_wsF own idx C x y (ws_ y b L r)) := by
  refine lw_app ?_ (lw_meth h5)
  intro w hw
  simp only [List.mem_cons, List.not_mem_nil, or_false] at hw
  rcases hw with e | e | e | e
  · rw [e]; exact h1
  · rw [e]; exact h2
  · rw [e]; exact h3
  · rw [e]; exact h4
theorem x_callVN (hκ : Ok κ cc own d) {y : MethodName} {cc' : ByteArray} {nL' : Nat} {ret' : Option FieldType} {d' mc ms b idx : Nat} {As rest : List Value} {C host : String} {q : Option Value → gH → Prop} (hM : CM (kE κ) y cc' nL' ret' d' mc ms (.ref b :: As) G q) (hd : d' < d) (hL : nL' ≤ 45) (hw : Cond.code y cc' nL' ret' ∈ lw_all) (hini : Cond.initialized y.cls ∈ lw_all) (hlk : Cond.methodLinkNest own idx y host ∈ lw_tbl) (hinst : Cond.instanceMethod y ∈ lw_all) (hsel : Cond.selects C y y ∈ lw_all)
    (ha : y.cls ≠ "java/lang/invoke/MethodHandle" ∧ y.cls ≠ "java/lang/invoke/VarHandle" ∧ (parseMethodDescriptor y.desc).map (fun d => d.parameters.length) = some As.length) {ci N : Nat} {T : u_T} {fs : List Value} (he : G b = some (.inr (ci, fs))) (hc : clAll[ci]? = some (C, T, N)) (hst : st = As.reverse ++ .ref b :: rest) (hrest : (rest.map fun v => v.category).sum ≤ 8) (dg : decode cc pc = .ok (.invokevirtual idx, 3))
    (kk : ∀ (v : Option Value) (G' : gH), q v G' → X κ G' u w (pc + 3) lv (v.toList ++ rest)) : X κ G (u + mc) (w + ms) pc lv st := fun H locs ls i j hP hI hS hl hi hj => by
  obtain ⟨p0, hp0⟩ := gl_at hP he
  have hpre := x_pre hκ hP hI hS (.ref b :: As)
  have h := hκ.2.2.2.2.1
  refine x_after hS hl hi hj (va_runVN (As := As) (rest := rest) (C := C) (host := host) ⟨hκ.1, hκ.2.1, hκ.2.2.1, hκ.2.2.2.1, h⟩ (hM (kl κ) (kA κ)) ⟨va_cnB As.length h (lw_meth hw) rfl rfl rfl (hκ.nw hlk rfl) (h _ hini) ha ⟨?_, ?_⟩, h _ hinst, h _ hsel⟩ ⟨hpre.1, va_recv hκ.k (gl_P hP H.size) hc hp0, hpre.2⟩ rfl rfl hl.1 hst (lv_room hrest) dg ⟨by omega, by omega⟩) kk
  · rw [hκ.2.2.2.2.2.2.2.2.1]; exact hd
  · rw [hκ.2.2.2.2.2.2.2.2.2.1]; show 8 + (nL' + 11) + 64 * d' ≤ 64 * d; omega
theorem x_callIN (hκ : Ok κ cc own d) {y : MethodName} {cc' : ByteArray} {nL' : Nat} {d' mc ms b idx : Nat} {As rest : List Value} {host : String} {q : Option Value → gH → Prop} (hM : CM (kE κ) y cc' nL' none d' mc ms (.ref b :: As) G q) (hd : d' < d) (hL : nL' ≤ 45) (hw : Cond.code y cc' nL' none ∈ lw_all) (hini : Cond.initialized y.cls ∈ lw_all) (hlk : Cond.methodLinkNest own idx y host ∈ lw_tbl) (hinst : Cond.instanceMethod y ∈ lw_all) (hyn : y.name = "<init>")
    (ha : y.cls ≠ "java/lang/invoke/MethodHandle" ∧ y.cls ≠ "java/lang/invoke/VarHandle" ∧ (parseMethodDescriptor y.desc).map (fun d => d.parameters.length) = some As.length) (hst : st = As.reverse ++ .ref b :: rest) (hrest : (rest.map fun v => v.category).sum ≤ 8) (dg : decode cc pc = .ok (.invokespecial idx, 3))
    (kk : ∀ (v : Option Value) (G' : gH), q v G' → X κ G' u w (pc + 3) lv (v.toList ++ rest)) : X κ G (u + mc) (w + ms) pc lv st := fun H locs ls i j hP hI hS hl hi hj => by
  have h := hκ.2.2.2.2.1
  refine x_after hS hl hi hj (va_runIN (As := As) (rest := rest) (host := host) ⟨hκ.1, hκ.2.1, hκ.2.2.1, hκ.2.2.2.1, h⟩ (hM (kl κ) (kA κ)) ⟨va_cnB As.length h (lw_meth hw) rfl rfl rfl (hκ.nw hlk rfl) (h _ hini) ha ⟨?_, ?_⟩, hyn, h _ hinst⟩ (x_pre hκ hP hI hS (.ref b :: As)) rfl rfl hl.1 hst (lv_room hrest) dg ⟨by omega, by omega⟩) kk
  · rw [hκ.2.2.2.2.2.2.2.2.1]; exact hd
  · rw [hκ.2.2.2.2.2.2.2.2.2.1]; show 8 + (nL' + 11) + 64 * d' ≤ 64 * d; omega
/-! System.arraycopy of references -/
/-- what a cell is that an array of Object may hold -/
def isOb (G : gH) (y : Nat) : Prop := ∃ (ci : Nat) (r : vw_C) (fs : List Value), G y = some (.inr (ci, fs)) ∧ clAll[ci]? = some r ∧ Cond.castable r.1 "java/lang/Object" ∈ lw_tbl
theorem x_anyO (hκ : Ok κ cc own d) {H : Heap} (hP : gP (kE κ) G H) {y : Nat} (hy : isOb G y) : va_Any "java/lang/Object" (ks κ) H y := by
  obtain ⟨ci, r, fs, h1, h2, h3⟩ := hy
  obtain ⟨q, hq⟩ := gl_at hP h1
  refine va_rAny hκ.k (gl_P hP H.size) hq h2 (fun comp c0 e1 e2 => ?_)
  obtain ⟨c1, t1, f1, f2, f3⟩ := Cond.castable_spec (va_Nw.use (A := #[]) rfl (hκ.nw h3 rfl))
  cases e2.symm.trans f1
  cases e1.symm.trans f2
  exact f3
theorem x_copyq (hκ : Ok κ cc own d) {index : Nat} (hlink : Cond.methodLink own index arraycopyName ∈ lw_all) (hnat : Cond.native arraycopyName ∈ lw_all) (hstat : Cond.static arraycopyName ∈ lw_all) (hini : Cond.initialized "java/lang/System" ∈ lw_all) {a0 a : Nat} {n0 n1 : Nat} {f g : Nat → Option Nat} (h0 : G a0 = some (.inl ((kE κ).2 4, aR n0 f))) (h1 : G a = some (.inl ((kE κ).2 4, aR n1 g)))
    {sp dp n : Int32} {s1 d1 m1 : Nat} (e1 : ¬ sp < 0) (e2 : ¬ dp < 0) (e3 : ¬ n < 0) (e4 : sp.toNatClampNeg = s1) (e5 : dp.toNatClampNeg = d1) (e6 : n.toNatClampNeg = m1) (h4 : s1 + m1 ≤ n0) (h5 : d1 + m1 ≤ n1) (hel : ∀ i : Nat, i < m1 → ∀ y : Nat, f (s1 + i) = some y → isOb G y) (hd : 0 < d) (hrest : (st.map fun v => v.category).sum ≤ 8) (dg : decode cc pc = .ok (.invokestatic index, 3))
    (kk : X κ (gU G a (.inl ((kE κ).2 4, aR n1 (va_cpy f g s1 d1 m1)))) u w (pc + 3) lv st) : X κ G u w pc lv (.int n :: .int dp :: .ref a :: .int sp :: .ref a0 :: st) := fun H locs ls i j hP hI hS hl hi hj => by
  obtain ⟨q0, hq0⟩ := gl_at hP h0
  obtain ⟨q1, hq1⟩ := gl_at hP h1
  subst e4 e5 e6
  have h := hκ.2.2.2.2.1
  refine va_copyM hκ.1 hκ.2.1 (by rw [hκ.2.2.1]; exact hl.1.symm) hκ.2.2.2.1 (h _ hlink) (h _ hnat) (h _ hstat) (h _ hini) hκ.k (gl_P hP H.size) (gl_D hI H.size) hS q0 q1 4 4 hq0 hq1 rfl rfl e1 e2 e3 h4 h5 (fun i hi y hy => x_anyO hκ hP (hel i hi y hy)) ?_ ?_ dg (fun H1 locs1 hP1 _ hS1 => kk H1 locs1 ls i j (gl_set hP hq1 hP1) (gIn_U hI (hI a _ h1)) hS1 hl hi hj)
  · rw [hκ.2.2.2.2.2.2.2.2.1]; exact hd
  · rw [hκ.2.2.2.2.2.2.2.2.2.1]
    have hw : nativeFrameWords "java/lang/System" "arraycopy" 5 ≤ 16 := by decide
    omega
end XR2
