/-! THE LAYER: one judgement X over a map of cells G; locals as a list; the context of a method's run as one value κ -/
abbrev gE : Type := va_G × (Nat → ClassId)
abbrev gH : Type := Nat → Option va_E
/-- a class without fields -/
def TX11 : u_T := fun _ => ("SortedPost$Always", "", "I", false)
/-- all classes that the claim's objects are of -/
abbrev clAll : List vw_C := [(RX8, TX8, 61), (RX0, TX0, 22), (RX1, TX1, 7), (RX2, TX2, 6), (RX3, TX3, 2), (RX4, TX4, 2), (RX5, TX5, 10), (RX6, TX6, 1), (RX7, TX7, 1), (RX9, TX9, 4), (RX10, TX10, 1), (RX12, TX12, 3), (RX14, TX14, 2), (RX15, TX15, 2), (RX16, TX16, 9), (RX17, TX17, 3), (RJ2, TJ2, 3), (RX11, TX11, 0)]
abbrev tysAll (E : gE) : List (ClassId × FieldType) := [(E.2 0, .int), (E.2 1, .boolean), (E.2 2, .byte), (E.2 3, .short), (E.2 4, .object "java/lang/Object"), (E.2 5, .object RX16), (E.2 6, .object RX2), (E.2 7, .object RX3), (E.2 8, .object RX7)]
def nwW : Cond → Bool
  | .fieldLinkNest .. => true
  | .methodLinkNest .. => true
  | w => w.faceAtom
theorem nwW_tab {w : Cond} (h : nwW w = true) : w.onTables = true := by
  cases w <;> first | rfl | (exact absurd h (by decide)) | (simp [nwW, Cond.faceAtom] at h)
theorem nwW_warm {w : Cond} (h : nwW w = true) {u U : State} (hW : u.WarmedH U.vm) (hw : va_Nw w u) : va_Nw w U := by
  by_cases hf : w.faceAtom = true
  · exact va_tabs (nwW_tab h) (rfl : (u.setVm U.vm).vm = U.vm) (Cond.faceAtom_setVm hW.alike w hf hw)
  · cases w with
    | fieldLinkNest a i b n d z => exact va_Nw.warmF hW hw
    | methodLinkNest a i x z => exact va_Nw.warmM hW hw
    | _ => exact absurd h hf
/-- what is known of the tables: classes, array classes; the words that no reader of steady words carries -/
def gK (E : gE) (U : State) : Prop := va_K E.1 clAll (tysAll E) U ∧ ∀ w ∈ lw_tbl, nwW w = true → va_Nw w U
theorem gK.moved {E : gE} {u U : State} (hW : u.WarmedH U.vm) (h : gK E u) : gK E U := ⟨va_K.moved hW.alike h.1, fun w hw hn => nwW_warm hn hW (h.2 w hw hn)⟩
/-- pairs of classes of which the one can't be cast to the other -/
abbrev ncL : List (String × String) := [("[I", "[S"), ("[S", "[I"), ("java/lang/ClassCastException", "java/lang/NullPointerException"), ("java/lang/ArrayIndexOutOfBoundsException", "java/lang/NullPointerException"), ("java/lang/ArrayIndexOutOfBoundsException", "java/lang/ClassCastException")]
/-- what stands outside of A and stays: the empty array that all new lists share, what Throwable's constructors read; and what is known of the tables beside gK -/
def gZ (E : gE) (A : Nat → Prop) (U : State) : Prop := va_Z "java/util/ArrayList" "DEFAULTCAPACITY_EMPTY_ELEMENTDATA" "[Ljava/lang/Object;" (.ref (E.2 20)) A U U.heap ∧ va_T (.object "java/lang/Object") (E.2 20) 0 (fun _ => .null) A U U.heap ∧ va_Zq "java/lang/Throwable" "UNASSIGNED_STACK" "[Ljava/lang/StackTraceElement;" A U U.heap ∧ va_Zq "java/lang/Throwable" "SUPPRESSED_SENTINEL" "Ljava/util/List;" A U U.heap
  ∧ va_Mi "[Ljava/lang/Object;" (E.2 21) U ∧ (∀ q ∈ ncL, va_Nc q.1 q.2 U) ∧ ∀ C ∈ ["java/lang/Object", RX16, RX2, RX3, RX7], va_AO C U
theorem gZ.moved {E : gE} {A : Nat → Prop} {u U : State} (hvm : u.vm.Alike U.vm) (hq : ∀ a : Nat, a < u.heap.size → ¬ A a → U.heap[a]? = u.heap[a]?) (h : gZ E A u) : gZ E A U :=
  ⟨va_Z.moved hvm (h.1.kept hq), va_T.moved hvm (h.2.1.kept hq), va_Zq.moved hvm (h.2.2.1.kept hq), va_Zq.moved hvm (h.2.2.2.1.kept hq), va_Mi.moved hvm h.2.2.2.2.1, fun q hm => va_Nc.moved hvm (h.2.2.2.2.2.1 q hm), fun C hm => va_AO.moved hvm (h.2.2.2.2.2.2 C hm)⟩
/-- the heap holds the cells of G -/
def gP (E : gE) (G : gH) (H : Heap) : Prop := ∀ (a : Nat) (e : va_E), G a = some e → va_at E.1 clAll (a, e) H
def gIn (A : Nat → Prop) (G : gH) : Prop := ∀ (a : Nat) (e : va_E), G a = some e → A a
def gU (G : gH) (a : Nat) (e : va_E) : gH := fun b => if b = a then some e else G b
theorem gU_self {G : gH} {a : Nat} {e : va_E} : gU G a e a = some e := if_pos rfl
theorem gU_ne {G : gH} {a b : Nat} {e : va_E} (h : b ≠ a) : gU G a e b = G b := if_neg h
/-- the map as a list of cells -/
def gl (G : gH) (n : Nat) : va_W := (List.range n).filterMap (fun a => (G a).map (fun e => (a, e)))
theorem gl_mem {G : gH} {n : Nat} {q : Nat × va_E} : q ∈ gl G n ↔ q.1 < n ∧ G q.1 = some q.2 := by
  unfold gl
  rw [List.mem_filterMap]
  constructor
  · rintro ⟨a, h1, h2⟩
    rw [List.mem_range] at h1
    cases h : G a with
    | none => rw [h] at h2; cases h2
    | some e =>
      rw [h] at h2
      have h3 : (a, e) = q := Option.some.inj h2
      rw [← h3]
      exact ⟨h1, h⟩
  · rintro ⟨h1, h2⟩
    refine ⟨q.1, List.mem_range.mpr h1, ?_⟩
    rw [h2]
    rfl
theorem gl_fst (G : gH) (n : Nat) : ((gl G n).map (fun q => q.1)).Nodup := by
  have h : (gl G n).map (fun q => q.1) = (List.range n).filter (fun a => (G a).isSome) := by
    unfold gl
    induction (List.range n) with
    | nil => rfl
    | cons a t ih =>
      rw [List.filterMap_cons]
      cases h : G a with
      | none => simp [h, ih]
      | some e => simp [h, ih]
  rw [h]
  exact List.Sublist.nodup List.filter_sublist List.nodup_range
theorem gl_P {E : gE} {G : gH} {H : Heap} (h : gP E G H) (n : Nat) : va_P E.1 clAll (gl G n) H := by
  intro k q hk
  exact h q.1 q.2 (gl_mem.mp (List.mem_of_getElem? hk)).2
theorem gl_D {A : Nat → Prop} {G : gH} (h : gIn A G) (n : Nat) : va_D A (gl G n) := by
  refine ⟨fun i j p q hi hj hpq => ?_, fun k q hk => h q.1 q.2 (gl_mem.mp (List.mem_of_getElem? hk)).2⟩
  have h0 := gl_fst G n
  have hi' : i < ((gl G n).map (fun q => q.1)).length := by rw [List.length_map]; exact (List.getElem?_eq_some_iff.mp hi).1
  have h1 : ((gl G n).map (fun q => q.1))[i]? = ((gl G n).map (fun q => q.1))[j]? := by
    rw [List.getElem?_map, List.getElem?_map, hi, hj]
    simp [hpq]
  exact (List.getElem?_inj hi' h0).mp h1
theorem gP.lt {E : gE} {G : gH} {H : Heap} (h : gP E G H) {a : Nat} {e : va_E} (ha : G a = some e) : a < H.size := (h a e ha).lt
theorem gl_at {E : gE} {G : gH} {H : Heap} (h : gP E G H) {a : Nat} {e : va_E} (ha : G a = some e) : ∃ k : Nat, (gl G H.size)[k]? = some (a, e) :=
  List.getElem?_of_mem (gl_mem.mpr ⟨h.lt ha, ha⟩)
theorem gl_set {E : gE} {G : gH} {H H1 : Heap} (h : gP E G H) {a k : Nat} {e e1 : va_E} (hk : (gl G H.size)[k]? = some (a, e)) (h1 : va_P E.1 clAll ((gl G H.size).set k (a, e1)) H1) : gP E (gU G a e1) H1 := by
  have hl := (List.getElem?_eq_some_iff.mp hk).1
  intro b x hx
  by_cases hb : b = a
  · subst hb
    rw [gU_self] at hx
    cases hx
    exact h1 k _ (List.getElem?_set_self hl)
  · rw [gU_ne hb] at hx
    obtain ⟨j, hj⟩ := gl_at h hx
    refine h1 j _ ?_
    rw [List.getElem?_set_ne]
    · exact hj
    · intro q
      subst q
      rw [hj] at hk
      cases hk
      exact hb rfl
theorem gl_push {E : gE} {G : gH} {H H1 : Heap} (h : gP E G H) {q : Nat} {e : va_E} (h1 : va_P E.1 clAll (gl G H.size ++ [(q, e)]) H1) : gP E (gU G q e) H1 := by
  intro b x hx
  by_cases hb : b = q
  · subst hb
    rw [gU_self] at hx
    cases hx
    refine h1 (gl G H.size).length _ ?_
    rw [List.getElem?_append_right (Nat.le_refl _), Nat.sub_self]
    rfl
  · rw [gU_ne hb] at hx
    obtain ⟨j, hj⟩ := gl_at h hx
    refine h1 j _ ?_
    rw [List.getElem?_append_left (List.getElem?_eq_some_iff.mp hj).1]
    exact hj
theorem gl_fresh {A : Nat → Prop} {E : gE} {G : gH} {H : Heap} (h : gP E G H) {q : Nat} {e : va_E} (hD : va_D A (gl G H.size ++ [(q, e)])) : G q = none := by
  cases hq : G q with
  | none => rfl
  | some x =>
    exfalso
    obtain ⟨j, hj⟩ := gl_at h hq
    have hl := (List.getElem?_eq_some_iff.mp hj).1
    have h1 := hD.1 j (gl G H.size).length (q, x) (q, e) (by rw [List.getElem?_append_left hl]; exact hj) (by rw [List.getElem?_append_right (Nat.le_refl _), Nat.sub_self]; rfl) rfl
    omega
theorem gIn_U {A : Nat → Prop} {G : gH} {a : Nat} {e : va_E} (h : gIn A G) (ha : A a) : gIn A (gU G a e) := by
  intro b x hx
  by_cases hb : b = a
  · rw [hb]; exact ha
  · rw [gU_ne hb] at hx
    exact h b x hx
theorem gP_kept {E : gE} {G : gH} {H H1 : Heap} (h : gP E G H) (hk : ∀ (a : Nat) (e : va_E), G a = some e → H1[a]? = H[a]?) : gP E G H1 := fun a e ha => (h a e ha).kept (hk a e ha)
/-! the locals -/
def loA : Nat → List (Option Value) → List (Nat × Value)
  | _, [] => []
  | i, none :: t => loA (i + 1) t
  | i, some v :: t => (i, v) :: loA (i + 1) t
def lo (lv : List (Option Value)) : List (Nat × Value) := loA 0 lv
theorem loA_mem {q : Nat × Value} : ∀ (lv : List (Option Value)) (i : Nat), q ∈ loA i lv ↔ i ≤ q.1 ∧ lv[q.1 - i]? = some (some q.2)
  | [], i => by simp [loA]
  | none :: t, i => by
    rw [loA, loA_mem t (i + 1)]
    constructor
    · rintro ⟨h1, h2⟩
      refine ⟨by omega, ?_⟩
      rw [show q.1 - i = (q.1 - (i + 1)) + 1 by omega, List.getElem?_cons_succ]
      exact h2
    · rintro ⟨h1, h2⟩
      by_cases h : q.1 = i
      · rw [h, Nat.sub_self] at h2
        simp at h2
      · refine ⟨by omega, ?_⟩
        rw [show q.1 - i = (q.1 - (i + 1)) + 1 by omega, List.getElem?_cons_succ] at h2
        exact h2
  | some v :: t, i => by
    rw [loA, List.mem_cons, loA_mem t (i + 1)]
    constructor
    · rintro (h | ⟨h1, h2⟩)
      · rw [h]
        simp
      · refine ⟨by omega, ?_⟩
        rw [show q.1 - i = (q.1 - (i + 1)) + 1 by omega, List.getElem?_cons_succ]
        exact h2
    · rintro ⟨h1, h2⟩
      by_cases h : q.1 = i
      · left
        rw [h, Nat.sub_self] at h2
        simp at h2
        rw [← h, h2]
      · right
        refine ⟨by omega, ?_⟩
        rw [show q.1 - i = (q.1 - (i + 1)) + 1 by omega, List.getElem?_cons_succ] at h2
        exact h2
theorem lo_mem {q : Nat × Value} {lv : List (Option Value)} : q ∈ lo lv ↔ lv[q.1]? = some (some q.2) := by
  unfold lo
  rw [loA_mem]
  simp
theorem lo_at {ls : Array Slot} {n : Nat} {lv : List (Option Value)} (h : lv_has ls n (lo lv)) {i : Nat} {v : Value} (hv : lv[i]? = some (some v)) : ls[i]? = some (.val v) := h.2.2 (i, v) (lo_mem.mpr hv)
/-- the place below isn't the first half of a long -/
def loOk (lv : List (Option Value)) (i : Nat) : Bool := match i with
  | 0 => true
  | j + 1 => match lv[j]? with
    | some (some v) => v.category == 1
    | _ => true
theorem loOk_ne {lv : List (Option Value)} {i : Nat} (h : loOk lv i = true) {q : Nat × Value} (hq : q ∈ lo lv) (he : q.1 + 1 = i) : ¬ q.2.category = 2 := by
  subst he
  rw [lo_mem] at hq
  simp only [loOk, hq] at h
  intro h2
  rw [h2] at h
  cases h
theorem lo_st1 {ls : Array Slot} {n i : Nat} {v : Value} {lv : List (Option Value)} (ho : loOk lv i = true) (h : lv_has ls n ((i, v) :: (lo lv).filter (fun q => !(q.1 == i) && !(q.1 + 1 == i && q.2.category == 2)))) : lv_has ls n (lo (lv.set i (some v))) := by
  refine ⟨h.1, h.2.1, fun q hq => h.2.2 q ?_⟩
  rw [lo_mem] at hq
  by_cases hi : q.1 = i
  · rw [List.getElem?_set, if_pos hi.symm] at hq
    split at hq
    · have h2 : v = q.2 := Option.some.inj (Option.some.inj hq)
      rw [List.mem_cons]
      left
      rw [← hi, h2]
    · cases hq
  · rw [List.getElem?_set_ne (Ne.symm hi)] at hq
    refine List.mem_cons_of_mem _ (List.mem_filter.mpr ⟨lo_mem.mpr hq, ?_⟩)
    have h3 : ¬ (q.1 + 1 = i ∧ q.2.category = 2) := fun z => loOk_ne ho (lo_mem.mpr hq) z.1 z.2
    simp only [Bool.and_eq_true, Bool.not_eq_true', beq_eq_false_iff_ne, ne_eq, Bool.and_eq_false_iff]
    refine ⟨hi, ?_⟩
    by_cases h4 : q.1 + 1 = i
    · exact Or.inr (fun z => h3 ⟨h4, z⟩)
    · exact Or.inl h4
theorem lo_st2 {ls : Array Slot} {n i : Nat} {v : Value} {lv : List (Option Value)} (ho : loOk lv i = true) (h : lv_has ls n ((i, v) :: (lo lv).filter (fun q => !(q.1 == i) && (!(q.1 == i + 1) && !(q.1 + 1 == i && q.2.category == 2))))) : lv_has ls n (lo ((lv.set i (some v)).set (i + 1) none)) := by
  refine ⟨h.1, h.2.1, fun q hq => h.2.2 q ?_⟩
  rw [lo_mem] at hq
  by_cases hj : q.1 = i + 1
  · rw [List.getElem?_set, if_pos hj.symm] at hq
    split at hq <;> cases hq
  · rw [List.getElem?_set_ne (Ne.symm hj)] at hq
    by_cases hi : q.1 = i
    · rw [List.getElem?_set, if_pos hi.symm] at hq
      split at hq
      · have h2 : v = q.2 := Option.some.inj (Option.some.inj hq)
        rw [List.mem_cons]
        left
        rw [← hi, h2]
      · cases hq
    · rw [List.getElem?_set_ne (Ne.symm hi)] at hq
      refine List.mem_cons_of_mem _ (List.mem_filter.mpr ⟨lo_mem.mpr hq, ?_⟩)
      have h3 : ¬ (q.1 + 1 = i ∧ q.2.category = 2) := fun z => loOk_ne ho (lo_mem.mpr hq) z.1 z.2
      simp only [Bool.and_eq_true, Bool.not_eq_true', beq_eq_false_iff_ne, ne_eq, Bool.and_eq_false_iff]
      refine ⟨hi, hj, ?_⟩
      by_cases h4 : q.1 + 1 = i
      · exact Or.inr (fun z => h3 ⟨h4, z⟩)
      · exact Or.inl h4
/-- the locals with which a method begins -/
def loV : List Value → List (Option Value)
  | [] => []
  | v :: t => if v.category = 2 then some v :: none :: loV t else some v :: loV t
def loE (av : List Value) (n : Nat) : List (Option Value) := loV av ++ List.replicate (n - (loV av).length) none
theorem loA_app (i n : Nat) : ∀ (l : List (Option Value)) , loA i (l ++ List.replicate n none) = loA i l := by
  intro l
  induction l generalizing i with
  | nil =>
    simp only [List.nil_append]
    induction n generalizing i with
    | zero => rfl
    | succ n ih => rw [List.replicate_succ]; show loA (i + 1) (List.replicate n none) = loA i []; rw [ih]; simp [loA]
  | cons a t ih =>
    cases a with
    | none => rw [List.cons_append, loA, loA, ih]
    | some v => rw [List.cons_append, loA, loA, ih]
theorem loA_V : ∀ (av : List Value) (i : Nat), loA i (loV av) = lv_args i av
  | [], i => rfl
  | v :: t, i => by
    by_cases h : v.category = 2
    · rw [loV, if_pos h, loA, loA, lv_args, if_pos h, loA_V t]
    · rw [loV, if_neg h, loA, lv_args, if_neg h, loA_V t]
theorem lo_entry (av : List Value) {n : Nat} (h : (lg_sl av).length ≤ n) : lv_has ((lg_sl av ++ List.replicate (n - (lg_sl av).length) Slot.unset).toArray) n (lo (loE av n)) := by
  have h1 := lv_entry av h
  unfold lo loE
  rw [loA_app, loA_V]
  exact h1
