/-! THE COMPONENT's WORLD: a typed heap s by address: kinds, fields of objects, numbers of arrays, references of arrays, lengths -/
abbrev CSt : Type := (Nat → Nat) × (Nat → Nat → Value) × (Nat → Nat → Int32) × (Nat → Nat → Option Nat) × (Nat → Nat)
def nfl (ci : Nat) : Nat := [61, 22, 7, 6, 2, 2, 10, 1, 1, 4, 1, 3, 2, 2, 9, 3, 3, 0].getD ci 0
def oFs (s : CSt) (a n : Nat) : List Value := (List.range n).map (s.2.1 a)
/-- kinds: 0 nothing; 1 + ci an object of class ci; 30 + t numbers, 40 + t references, of array class t -/
def sG (E : gE) (s : CSt) : gH := fun a => if s.1 a = 0 then none else if s.1 a < 20 then some (.inr (s.1 a - 1, oFs s a (nfl (s.1 a - 1)))) else if s.1 a < 40 then some (.inl (E.2 (s.1 a - 30), s.2.2.2.2 a, .inl (s.2.2.1 a))) else some (.inl (E.2 (s.1 a - 40), aR (s.2.2.2.2 a) (s.2.2.2.1 a)))
def oS (s : CSt) (a k : Nat) (v : Value) : CSt := (s.1, fun b j => if b = a ∧ j = k then v else s.2.1 b j, s.2.2)
def aS (s : CSt) (a i : Nat) (v : Int32) : CSt := (s.1, s.2.1, fun b j => if b = a ∧ j = i then v else s.2.2.1 b j, s.2.2.2)
def fS (s : CSt) (a i : Nat) (v : Option Nat) : CSt := (s.1, s.2.1, s.2.2.1, fun b j => if b = a ∧ j = i then v else s.2.2.2.1 b j, s.2.2.2.2)
/-- what is made: an object, an array of numbers, an array of references -/
def nO (s : CSt) (q ci : Nat) (fs : List Value) : CSt := (fun b => if b = q then ci + 1 else s.1 b, fun b j => if b = q then fs.getD j .null else s.2.1 b j, s.2.2)
def nA (s : CSt) (q t n : Nat) : CSt := (fun b => if b = q then 30 + t else s.1 b, s.2.1, fun b j => if b = q then 0 else s.2.2.1 b j, s.2.2.2.1, fun b => if b = q then n else s.2.2.2.2 b)
def nF (s : CSt) (q t n : Nat) : CSt := (fun b => if b = q then 40 + t else s.1 b, s.2.1, s.2.2.1, fun b j => if b = q then none else s.2.2.2.1 b j, fun b => if b = q then n else s.2.2.2.2 b)
theorem oS_k {s : CSt} {a k : Nat} {v : Value} : (oS s a k v).1 = s.1 := rfl
theorem oS_o {s : CSt} {a k b j : Nat} {v : Value} : (oS s a k v).2.1 b j = if b = a ∧ j = k then v else s.2.1 b j := rfl
theorem oS_a {s : CSt} {a k : Nat} {v : Value} : (oS s a k v).2.2.1 = s.2.2.1 := rfl
theorem oS_f {s : CSt} {a k : Nat} {v : Value} : (oS s a k v).2.2.2.1 = s.2.2.2.1 := rfl
theorem oS_n {s : CSt} {a k : Nat} {v : Value} : (oS s a k v).2.2.2.2 = s.2.2.2.2 := rfl
theorem aS_k {s : CSt} {a k : Nat} {v : Int32} : (aS s a k v).1 = s.1 := rfl
theorem aS_o {s : CSt} {a k : Nat} {v : Int32} : (aS s a k v).2.1 = s.2.1 := rfl
theorem aS_a {s : CSt} {a k b j : Nat} {v : Int32} : (aS s a k v).2.2.1 b j = if b = a ∧ j = k then v else s.2.2.1 b j := rfl
theorem aS_f {s : CSt} {a k : Nat} {v : Int32} : (aS s a k v).2.2.2.1 = s.2.2.2.1 := rfl
theorem aS_n {s : CSt} {a k : Nat} {v : Int32} : (aS s a k v).2.2.2.2 = s.2.2.2.2 := rfl
theorem fS_k {s : CSt} {a k : Nat} {v : Option Nat} : (fS s a k v).1 = s.1 := rfl
theorem fS_o {s : CSt} {a k : Nat} {v : Option Nat} : (fS s a k v).2.1 = s.2.1 := rfl
theorem fS_a {s : CSt} {a k : Nat} {v : Option Nat} : (fS s a k v).2.2.1 = s.2.2.1 := rfl
theorem fS_f {s : CSt} {a k b j : Nat} {v : Option Nat} : (fS s a k v).2.2.2.1 b j = if b = a ∧ j = k then v else s.2.2.2.1 b j := rfl
theorem fS_n {s : CSt} {a k : Nat} {v : Option Nat} : (fS s a k v).2.2.2.2 = s.2.2.2.2 := rfl
theorem nO_k {s : CSt} {q ci b : Nat} {fs : List Value} : (nO s q ci fs).1 b = if b = q then ci + 1 else s.1 b := rfl
theorem nO_o {s : CSt} {q ci b j : Nat} {fs : List Value} : (nO s q ci fs).2.1 b j = if b = q then fs.getD j .null else s.2.1 b j := rfl
theorem nO_a {s : CSt} {q ci : Nat} {fs : List Value} : (nO s q ci fs).2.2 = s.2.2 := rfl
theorem nA_k {s : CSt} {q t n b : Nat} : (nA s q t n).1 b = if b = q then 30 + t else s.1 b := rfl
theorem nA_o {s : CSt} {q t n : Nat} : (nA s q t n).2.1 = s.2.1 := rfl
theorem nA_a {s : CSt} {q t n b j : Nat} : (nA s q t n).2.2.1 b j = if b = q then 0 else s.2.2.1 b j := rfl
theorem nA_f {s : CSt} {q t n : Nat} : (nA s q t n).2.2.2.1 = s.2.2.2.1 := rfl
theorem nA_n {s : CSt} {q t n b : Nat} : (nA s q t n).2.2.2.2 b = if b = q then n else s.2.2.2.2 b := rfl
theorem nF_k {s : CSt} {q t n b : Nat} : (nF s q t n).1 b = if b = q then 40 + t else s.1 b := rfl
theorem nF_o {s : CSt} {q t n : Nat} : (nF s q t n).2.1 = s.2.1 := rfl
theorem nF_a {s : CSt} {q t n : Nat} : (nF s q t n).2.2.1 = s.2.2.1 := rfl
theorem nF_f {s : CSt} {q t n b j : Nat} : (nF s q t n).2.2.2.1 b j = if b = q then none else s.2.2.2.1 b j := rfl
theorem nF_n {s : CSt} {q t n b : Nat} : (nF s q t n).2.2.2.2 b = if b = q then n else s.2.2.2.2 b := rfl
theorem oFs_at {s : CSt} {a n k : Nat} (h : k < n) : (oFs s a n)[k]? = some (s.2.1 a k) := by
  unfold oFs
  rw [List.getElem?_map, List.getElem?_range h]
  rfl
theorem oFs_len {s : CSt} {a n : Nat} : (oFs s a n).length = n := by unfold oFs; rw [List.length_map, List.length_range]
theorem sG_o {E : gE} {s : CSt} {a ci : Nat} (h : s.1 a = ci + 1) (hci : ci < 19) : sG E s a = some (.inr (ci, oFs s a (nfl ci))) := by
  unfold sG
  rw [if_neg (by omega), if_pos (by omega), h]
  rfl
theorem sG_a {E : gE} {s : CSt} {a t : Nat} (h : s.1 a = 30 + t) (ht : t < 10) : sG E s a = some (.inl (E.2 t, s.2.2.2.2 a, .inl (s.2.2.1 a))) := by
  unfold sG
  rw [if_neg (by omega), if_neg (by omega), if_pos (by omega), h, Nat.add_sub_cancel_left]
theorem sG_f {E : gE} {s : CSt} {a t : Nat} (h : s.1 a = 40 + t) : sG E s a = some (.inl (E.2 t, aR (s.2.2.2.2 a) (s.2.2.2.1 a))) := by
  unfold sG
  rw [if_neg (by omega), if_neg (by omega), if_neg (by omega), h, Nat.add_sub_cancel_left]
theorem sG_none {E : gE} {s : CSt} {a : Nat} (h : sG E s a = none) : s.1 a = 0 := by
  unfold sG at h
  by_cases h0 : s.1 a = 0
  · exact h0
  · rw [if_neg h0] at h
    split at h
    · cases h
    · split at h <;> cases h
theorem sG_z {E : gE} {s : CSt} {a : Nat} (h : s.1 a = 0) : sG E s a = none := by
  unfold sG
  rw [if_pos h]
theorem sG_put {E : gE} {s : CSt} {a ci k : Nat} {v : Value} (h : s.1 a = ci + 1) (hci : ci < 19) : gU (sG E s) a (.inr (ci, (oFs s a (nfl ci)).set k v)) = sG E (oS s a k v) := by
  funext b
  unfold gU
  by_cases hb : b = a
  · subst hb
    rw [if_pos rfl, sG_o (s := oS s b k v) (by rw [oS_k]; exact h) hci]
    congr 3
    refine List.ext_getElem? fun j => ?_
    by_cases hj : j < nfl ci
    · rw [oFs_at hj, oS_o]
      by_cases hk : j = k
      · subst hk
        rw [List.getElem?_set_self (by rw [oFs_len]; exact hj), if_pos ⟨rfl, rfl⟩]
      · rw [List.getElem?_set_ne (Ne.symm hk), oFs_at hj, if_neg (fun z => hk z.2)]
    · rw [List.getElem?_eq_none (by rw [List.length_set, oFs_len]; omega), List.getElem?_eq_none (by rw [oFs_len]; omega)]
  · rw [if_neg hb]
    have e : ∀ n, oFs (oS s a k v) b n = oFs s b n := fun n => by
      unfold oFs
      congr 1
      funext j
      rw [oS_o, if_neg (fun z => hb z.1)]
    unfold sG
    rw [e]
    rfl
theorem sG_ast {E : gE} {s : CSt} {a t i : Nat} {v : Int32} (h : s.1 a = 30 + t) (ht : t < 10) : gU (sG E s) a (.inl (E.2 t, s.2.2.2.2 a, .inl (upd (s.2.2.1 a) i v))) = sG E (aS s a i v) := by
  funext b
  unfold gU
  by_cases hb : b = a
  · subst hb
    rw [if_pos rfl, sG_a (s := aS s b i v) (t := t) (by rw [aS_k]; exact h) ht, aS_n]
    have e : upd (s.2.2.1 b) i v = (aS s b i v).2.2.1 b := by
      funext j
      rw [aS_a]
      unfold upd
      by_cases hj : j = i
      · rw [if_pos hj, if_pos ⟨rfl, hj⟩]
      · rw [if_neg hj, if_neg (fun z => hj z.2)]
    rw [e]
  · rw [if_neg hb]
    have e : (aS s a i v).2.2.1 b = s.2.2.1 b := by
      funext j
      rw [aS_a, if_neg (fun z => hb z.1)]
    unfold sG
    rw [e]
    rfl
theorem sG_fst {E : gE} {s : CSt} {a t i : Nat} {v : Option Nat} (h : s.1 a = 40 + t) : gU (sG E s) a (.inl (E.2 t, aR (s.2.2.2.2 a) (va_up (s.2.2.2.1 a) i v))) = sG E (fS s a i v) := by
  funext b
  unfold gU
  by_cases hb : b = a
  · subst hb
    rw [if_pos rfl, sG_f (s := fS s b i v) (t := t) (by rw [fS_k]; exact h), fS_n]
    have e : va_up (s.2.2.2.1 b) i v = (fS s b i v).2.2.2.1 b := by
      funext j
      rw [fS_f]
      unfold va_up
      by_cases hj : j = i
      · rw [if_pos hj, if_pos ⟨rfl, hj⟩]
      · rw [if_neg hj, if_neg (fun z => hj z.2)]
    rw [e]
  · rw [if_neg hb]
    have e : (fS s a i v).2.2.2.1 b = s.2.2.2.1 b := by
      funext j
      rw [fS_f, if_neg (fun z => hb z.1)]
    unfold sG
    rw [e]
    rfl
theorem sG_nO {E : gE} {s : CSt} {q ci : Nat} {fs : List Value} (hl : fs.length = nfl ci) (hci : ci < 19) : gU (sG E s) q (.inr (ci, fs)) = sG E (nO s q ci fs) := by
  funext b
  unfold gU
  by_cases hb : b = q
  · subst hb
    rw [if_pos rfl, sG_o (s := nO s b ci fs) (ci := ci) (by rw [nO_k, if_pos rfl]) hci]
    congr 3
    refine List.ext_getElem? fun j => ?_
    by_cases hj : j < nfl ci
    · rw [oFs_at hj, nO_o, if_pos rfl, List.getD_eq_getElem?_getD, List.getElem?_eq_getElem (by omega)]
      rfl
    · rw [List.getElem?_eq_none (by omega), List.getElem?_eq_none (by rw [oFs_len]; omega)]
  · rw [if_neg hb]
    have e : ∀ n, oFs (nO s q ci fs) b n = oFs s b n := fun n => by
      unfold oFs
      congr 1
      funext j
      rw [nO_o, if_neg hb]
    have e2 : (nO s q ci fs).1 b = s.1 b := by rw [nO_k, if_neg hb]
    unfold sG
    rw [e, e2]
    rfl
theorem sG_nA {E : gE} {s : CSt} {q t n : Nat} (ht : t < 10) : gU (sG E s) q (.inl (E.2 t, n, .inl (fun _ => 0))) = sG E (nA s q t n) := by
  funext b
  unfold gU
  by_cases hb : b = q
  · subst hb
    rw [if_pos rfl, sG_a (s := nA s b t n) (t := t) (by rw [nA_k, if_pos rfl]) ht, nA_n, if_pos rfl]
    have e : (nA s b t n).2.2.1 b = fun _ => 0 := by
      funext j
      rw [nA_a, if_pos rfl]
    rw [e]
  · rw [if_neg hb]
    have e : (nA s q t n).2.2.1 b = s.2.2.1 b := by
      funext j
      rw [nA_a, if_neg hb]
    have e2 : (nA s q t n).1 b = s.1 b := by rw [nA_k, if_neg hb]
    have e3 : (nA s q t n).2.2.2.2 b = s.2.2.2.2 b := by rw [nA_n, if_neg hb]
    unfold sG
    rw [e, e2, e3]
    rfl
theorem sG_nF {E : gE} {s : CSt} {q t n : Nat} : gU (sG E s) q (.inl (E.2 t, aR n (fun _ => none))) = sG E (nF s q t n) := by
  funext b
  unfold gU
  by_cases hb : b = q
  · subst hb
    rw [if_pos rfl, sG_f (s := nF s b t n) (t := t) (by rw [nF_k, if_pos rfl]), nF_n, if_pos rfl]
    have e : (nF s b t n).2.2.2.1 b = fun _ => none := by
      funext j
      rw [nF_f, if_pos rfl]
    rw [e]
  · rw [if_neg hb]
    have e : (nF s q t n).2.2.2.1 b = s.2.2.2.1 b := by
      funext j
      rw [nF_f, if_neg hb]
    have e2 : (nF s q t n).1 b = s.1 b := by rw [nF_k, if_neg hb]
    have e3 : (nF s q t n).2.2.2.2 b = s.2.2.2.2 b := by rw [nF_n, if_neg hb]
    unfold sG
    rw [e, e2, e3]
    rfl
/-! rows -/
/-- a class of ours by its number -/
def Cl (ci : Nat) (C : String) (T : u_T) (N : Nat) (ty : Nat → FieldType) : Prop := (∀ w ∈ u_ws C T N, w ∈ lw_all) ∧ clAll[ci]? = some (C, T, N) ∧ nfl ci = N ∧ (∀ k, k < N → parseFieldDescriptor (T k).2.2.1 = some (ty k)) ∧ (∀ a, a < N → ∀ b, b < N → a ≠ b → (T a).2.1 ≠ (T b).2.1) ∧ ci < 19
def FL (own : String) (idx : Nat) (ref n d : String) : Prop := Cond.fieldLink own idx ref n d ∈ lw_all ∨ ∃ host, Cond.fieldLinkNest own idx ref n d host ∈ lw_tbl
section CR1
variable {κ : Kx} {s : CSt} {u w pc d : Nat} {lv : List (Option Value)} {st : List Value} {cc : ByteArray} {own : String}
theorem x_room {G : gH} {u' w' : Nat} (hu : u ≤ u') (hw : w ≤ w') (h : X κ G u w pc lv st) : X κ G u' w' pc lv st := fun H locs ls i j hP hI hS hl hi hj => h H locs ls i j hP hI hS hl (by omega) (by omega)
theorem c_get (hκ : Ok κ cc own d) {ci N a : Nat} {C ref : String} {T : u_T} {ty : Nat → FieldType} (hc : Cl ci C T N ty) (hK : s.1 a = ci + 1) (k : Nat) {idx : Nat} (hk : k < N) (hlink : FL own idx ref (T k).2.1 (T k).2.2.1) (href : (T k).1 = ref) {v : Value} (hv : s.2.1 a k = v) (dg : decode cc pc = .ok (.getfield idx, 3)) (kk : X κ (sG (kE κ) s) u w (pc + 3) lv (v :: st)) : X κ (sG (kE κ) s) u w pc lv (.ref a :: st) := by
  have he : sG (kE κ) s a = some (.inr (ci, oFs s a (nfl ci))) := sG_o hK hc.2.2.2.2.2
  have hv2 : (oFs s a (nfl ci))[k]? = some v := by rw [oFs_at (by rw [hc.2.2.1]; exact hk), hv]
  rcases hlink with h | ⟨host, h⟩
  · exact x_get hκ hc.1 he hc.2.1 k hk h href hv2 dg kk
  · exact x_getN hκ hc.1 he hc.2.1 k hk h href hv2 dg kk
theorem c_put (hκ : Ok κ cc own d) {ci N a : Nat} {C ref : String} {T : u_T} {ty0 : Nat → FieldType} (hc : Cl ci C T N ty0) (hK : s.1 a = ci + 1) (k : Nat) {idx : Nat} (hk : k < N) (hlink : FL own idx ref (T k).2.1 (T k).2.2.1) (href : (T k).1 = ref) (hfin : (T k).2.2.2 = false) {v : Value} (hn : narrow (ty0 k) v = v) (hfit : fits (ty0 k) v = true) (dg : decode cc pc = .ok (.putfield idx, 3)) (kk : X κ (sG (kE κ) (oS s a k v)) u w (pc + 3) lv st) : X κ (sG (kE κ) s) u w pc lv (v :: .ref a :: st) := by
  have he : sG (kE κ) s a = some (.inr (ci, oFs s a (nfl ci))) := sG_o hK hc.2.2.2.2.2
  rw [← sG_put hK hc.2.2.2.2.2] at kk
  rcases hlink with h | ⟨host, h⟩
  · exact x_put hκ hc.1 ty0 hc.2.2.2.1 hc.2.2.2.2.1 he hc.2.1 k hk h href hfin rfl hn hfit (by rw [oFs_len, hc.2.2.1]; exact hk) dg kk
  · exact x_putN hκ hc.1 ty0 hc.2.2.2.1 hc.2.2.2.2.1 he hc.2.1 k hk h href hfin rfl hn hfit (by rw [oFs_len, hc.2.2.1]; exact hk) dg kk
/-- a final field, in the constructor -/
theorem c_putF (hκ : Ok κ cc own d) {ci N a : Nat} {C ref : String} {T : u_T} {ty0 : Nat → FieldType} (hc : Cl ci C T N ty0) (hK : s.1 a = ci + 1) (k : Nat) {idx : Nat} (hk : k < N) (hlink : Cond.fieldLink own idx ref (T k).2.1 (T k).2.2.1 ∈ lw_all) (href : (T k).1 = ref) (hfin : (T k).2.2.2 = true) (hin2 : (kme κ).name = "<init>") (hdecl : (T k).1 = own) {v : Value} (hn : narrow (ty0 k) v = v) (hfit : fits (ty0 k) v = true) (dg : decode cc pc = .ok (.putfield idx, 3)) (kk : X κ (sG (kE κ) (oS s a k v)) u w (pc + 3) lv st) : X κ (sG (kE κ) s) u w pc lv (v :: .ref a :: st) := by
  have he : sG (kE κ) s a = some (.inr (ci, oFs s a (nfl ci))) := sG_o hK hc.2.2.2.2.2
  rw [← sG_put hK hc.2.2.2.2.2] at kk
  exact x_putF hκ hc.1 ty0 hc.2.2.2.1 hc.2.2.2.2.1 he hc.2.1 k hk hlink href hfin hin2 hdecl rfl hn hfit (by rw [oFs_len, hc.2.2.1]; exact hk) dg kk
theorem c_iald (hκ : Ok κ cc own d) {a : Nat} {x : Int32} (hK : s.1 a = 30) {n : Nat} (hn : s.2.2.2.2 a = n) (hx : vp_in x n) {v : Int32} (hv : s.2.2.1 a x.toNatClampNeg = v) (dg : decode cc pc = .ok (.iaload, 1)) (kk : X κ (sG (kE κ) s) u w (pc + 1) lv (.int v :: st)) : X κ (sG (kE κ) s) u w pc lv (.int x :: .ref a :: st) := by
  subst hn hv
  exact x_iald hκ (sG_a (t := 0) hK (by decide)) hx dg kk
theorem c_zald (hκ : Ok κ cc own d) {a : Nat} {x : Int32} (hK : s.1 a = 31) {n : Nat} (hn : s.2.2.2.2 a = n) (hx : vp_in x n) {v : Int32} (hv : s.2.2.1 a x.toNatClampNeg = v) (dg : decode cc pc = .ok (.baload, 1)) (kk : X κ (sG (kE κ) s) u w (pc + 1) lv (.int v :: st)) : X κ (sG (kE κ) s) u w pc lv (.int x :: .ref a :: st) := by
  subst hn hv
  exact x_zald hκ (sG_a (t := 1) hK (by decide)) hx dg kk
theorem c_bald (hκ : Ok κ cc own d) {a : Nat} {x : Int32} (hK : s.1 a = 32) {n : Nat} (hn : s.2.2.2.2 a = n) (hx : vp_in x n) {v : Int32} (hv : s.2.2.1 a x.toNatClampNeg = v) (dg : decode cc pc = .ok (.baload, 1)) (kk : X κ (sG (kE κ) s) u w (pc + 1) lv (.int v :: st)) : X κ (sG (kE κ) s) u w pc lv (.int x :: .ref a :: st) := by
  subst hn hv
  exact x_bald hκ (sG_a (t := 2) hK (by decide)) hx dg kk
theorem c_sald (hκ : Ok κ cc own d) {a : Nat} {x : Int32} (hK : s.1 a = 33) {n : Nat} (hn : s.2.2.2.2 a = n) (hx : vp_in x n) {v : Int32} (hv : s.2.2.1 a x.toNatClampNeg = v) (dg : decode cc pc = .ok (.saload, 1)) (kk : X κ (sG (kE κ) s) u w (pc + 1) lv (.int v :: st)) : X κ (sG (kE κ) s) u w pc lv (.int x :: .ref a :: st) := by
  subst hn hv
  exact x_sald hκ (sG_a (t := 3) hK (by decide)) hx dg kk
theorem c_iast (hκ : Ok κ cc own d) {a : Nat} {x y : Int32} (hK : s.1 a = 30) {n : Nat} (hn : s.2.2.2.2 a = n) (hx : vp_in x n) {z : Nat} (hz : x.toNatClampNeg = z) (dg : decode cc pc = .ok (.iastore, 1)) (kk : X κ (sG (kE κ) (aS s a z y)) u w (pc + 1) lv st) : X κ (sG (kE κ) s) u w pc lv (.int y :: .int x :: .ref a :: st) := by
  subst hn hz
  rw [← sG_ast (t := 0) hK (by decide)] at kk
  exact x_iast hκ (sG_a (t := 0) hK (by decide)) hx dg kk
theorem c_zast (hκ : Ok κ cc own d) {a : Nat} {x y : Int32} (hK : s.1 a = 31) {n : Nat} (hn : s.2.2.2.2 a = n) (hx : vp_in x n) {z : Nat} (hz : x.toNatClampNeg = z) {v : Int32} (hy : vp_nar .boolean y = v) (dg : decode cc pc = .ok (.bastore, 1)) (kk : X κ (sG (kE κ) (aS s a z v)) u w (pc + 1) lv st) : X κ (sG (kE κ) s) u w pc lv (.int y :: .int x :: .ref a :: st) := by
  subst hn hz hy
  rw [← sG_ast (t := 1) hK (by decide)] at kk
  exact x_zast hκ (sG_a (t := 1) hK (by decide)) hx dg kk
theorem c_bast (hκ : Ok κ cc own d) {a : Nat} {x y : Int32} (hK : s.1 a = 32) {n : Nat} (hn : s.2.2.2.2 a = n) (hx : vp_in x n) {z : Nat} (hz : x.toNatClampNeg = z) {v : Int32} (hy : vp_nar .byte y = v) (dg : decode cc pc = .ok (.bastore, 1)) (kk : X κ (sG (kE κ) (aS s a z v)) u w (pc + 1) lv st) : X κ (sG (kE κ) s) u w pc lv (.int y :: .int x :: .ref a :: st) := by
  subst hn hz hy
  rw [← sG_ast (t := 2) hK (by decide)] at kk
  exact x_bast hκ (sG_a (t := 2) hK (by decide)) hx dg kk
theorem c_sast (hκ : Ok κ cc own d) {a : Nat} {x y : Int32} (hK : s.1 a = 33) {n : Nat} (hn : s.2.2.2.2 a = n) (hx : vp_in x n) {z : Nat} (hz : x.toNatClampNeg = z) {v : Int32} (hy : vp_nar .short y = v) (dg : decode cc pc = .ok (.sastore, 1)) (kk : X κ (sG (kE κ) (aS s a z v)) u w (pc + 1) lv st) : X κ (sG (kE κ) s) u w pc lv (.int y :: .int x :: .ref a :: st) := by
  subst hn hz hy
  rw [← sG_ast (t := 3) hK (by decide)] at kk
  exact x_sast hκ (sG_a (t := 3) hK (by decide)) hx dg kk
theorem c_alen (hκ : Ok κ cc own d) {a t : Nat} (hK : s.1 a = 30 + t) (ht : t < 4) {n : Nat} (hn : s.2.2.2.2 a = n) (dg : decode cc pc = .ok (.arraylength, 1)) (kk : X κ (sG (kE κ) s) u w (pc + 1) lv (.int (nI n) :: st)) : X κ (sG (kE κ) s) u w pc lv (.ref a :: st) := by
  subst hn
  rcases (show t = 0 ∨ t = 1 ∨ t = 2 ∨ t = 3 by omega) with rfl | rfl | rfl | rfl
  · exact x_alen (t := 0) hκ (sG_a hK (by decide)) rfl dg kk
  · exact x_alen (t := 1) hκ (sG_a hK (by decide)) rfl dg kk
  · exact x_alen (t := 2) hκ (sG_a hK (by decide)) rfl dg kk
  · exact x_alen (t := 3) hκ (sG_a hK (by decide)) rfl dg kk
theorem tys_f {E : gE} {t : Nat} (h1 : 4 ≤ t) (h2 : t < 9) : ∃ C : String, (tysAll E)[t]? = some (E.2 t, .object C) := by
  rcases (show t = 4 ∨ t = 5 ∨ t = 6 ∨ t = 7 ∨ t = 8 by omega) with rfl | rfl | rfl | rfl | rfl <;> exact ⟨_, rfl⟩
theorem c_alenF (hκ : Ok κ cc own d) {a t : Nat} (hK : s.1 a = 40 + t) (h1 : 4 ≤ t) (h2 : t < 9) {n : Nat} (hn : s.2.2.2.2 a = n) (dg : decode cc pc = .ok (.arraylength, 1)) (kk : X κ (sG (kE κ) s) u w (pc + 1) lv (.int (nI n) :: st)) : X κ (sG (kE κ) s) u w pc lv (.ref a :: st) := by
  subst hn
  obtain ⟨C, hC⟩ := tys_f (E := kE κ) h1 h2
  exact x_alen (t := t) hκ (sG_f hK) hC dg kk
theorem c_aald (hκ : Ok κ cc own d) {a t : Nat} {x : Int32} (hK : s.1 a = 40 + t) (h1 : 4 ≤ t) (h2 : t < 9) {n : Nat} (hn : s.2.2.2.2 a = n) (hx : vp_in x n) {v : Nat} (hv : s.2.2.2.1 a x.toNatClampNeg = some v) (dg : decode cc pc = .ok (.aaload, 1)) (kk : X κ (sG (kE κ) s) u w (pc + 1) lv (.ref v :: st)) : X κ (sG (kE κ) s) u w pc lv (.int x :: .ref a :: st) := by
  subst hn
  obtain ⟨C, hC⟩ := tys_f (E := kE κ) h1 h2
  exact x_aald (t := t) hκ (sG_f hK) hC hx hv dg kk
/-- an object is stored in an array of Object; in an array of its own class; nothing is -/
theorem c_aastO (hκ : Ok κ cc own d) {a v ci N : Nat} {C : String} {T : u_T} {ty : Nat → FieldType} {x : Int32} (hK : s.1 a = 44) (hc : Cl ci C T N ty) (hv : s.1 v = ci + 1) (hca : Cond.castable C "java/lang/Object" ∈ lw_tbl) {n : Nat} (hn : s.2.2.2.2 a = n) (hx : vp_in x n) {z : Nat} (hz : x.toNatClampNeg = z) (dg : decode cc pc = .ok (.aastore, 1)) (kk : X κ (sG (kE κ) (fS s a z (some v))) u w (pc + 1) lv st) : X κ (sG (kE κ) s) u w pc lv (.ref v :: .int x :: .ref a :: st) := by
  subst hn
  rw [← sG_fst (t := 4) hK] at kk
  exact x_aastO (t := 4) hκ (sG_f (t := 4) hK) rfl (sG_o hv hc.2.2.2.2.2) hc.2.1 hca hx hz dg kk
theorem c_aastS (hκ : Ok κ cc own d) {a v t ci N : Nat} {C : String} {T : u_T} {ty : Nat → FieldType} {x : Int32} (hK : s.1 a = 40 + t) (hc : Cl ci C T N ty) (hv : s.1 v = ci + 1) (ht : (tysAll (kE κ))[t]? = some ((kE κ).2 t, .object C)) {n : Nat} (hn : s.2.2.2.2 a = n) (hx : vp_in x n) {z : Nat} (hz : x.toNatClampNeg = z) (dg : decode cc pc = .ok (.aastore, 1)) (kk : X κ (sG (kE κ) (fS s a z (some v))) u w (pc + 1) lv st) : X κ (sG (kE κ) s) u w pc lv (.ref v :: .int x :: .ref a :: st) := by
  subst hn
  rw [← sG_fst (t := t) hK] at kk
  exact x_aastS (t := t) (r := (C, T, N)) hκ (sG_f (t := t) hK) ht (sG_o hv hc.2.2.2.2.2) hc.2.1 hx hz dg kk
theorem c_aastN (hκ : Ok κ cc own d) {a t : Nat} {x : Int32} (hK : s.1 a = 40 + t) (h1 : 4 ≤ t) (h2 : t < 9) {n : Nat} (hn : s.2.2.2.2 a = n) (hx : vp_in x n) {z : Nat} (hz : x.toNatClampNeg = z) (dg : decode cc pc = .ok (.aastore, 1)) (kk : X κ (sG (kE κ) (fS s a z none)) u w (pc + 1) lv st) : X κ (sG (kE κ) s) u w pc lv (.null :: .int x :: .ref a :: st) := by
  subst hn
  rw [← sG_fst (t := t) hK] at kk
  obtain ⟨C, hC⟩ := tys_f (E := kE κ) h1 h2
  exact x_aastN (t := t) hκ (sG_f (t := t) hK) hC hx hz dg kk
/-! what is made -/
theorem c_new (hκ : Ok κ cc own d) {ci N : Nat} {C : String} {T : u_T} {ty : Nat → FieldType} {idx : Nat} (hc : Cl ci C T N ty) (hcl : Cond.classLink own idx C ∈ lw_all) (hinst : Cond.instantiable C N ∈ lw_all) (hini : Cond.initialized C ∈ lw_all) (fs : List Value) (hl : fs.length = nfl ci) (hfs : ∀ j, j < N → defaultValue (ty j) = vp_V fs j) (dg : decode cc pc = .ok (.new idx, 3))
    (kk : ∀ q : Nat, s.1 q = 0 → X κ (sG (kE κ) (nO s q ci fs)) u w (pc + 3) lv (.ref q :: st)) : X κ (sG (kE κ) s) (u + 1) (w + N) pc lv st := by
  refine x_new hκ hc.1 ty hc.2.2.2.1 hcl hinst hini hc.2.1 hfs dg (fun q hq => ?_)
  rw [sG_nO hl hc.2.2.2.2.2]
  exact kk q (sG_none hq)
theorem c_newi (hκ : Ok κ cc own d) {n : Int32} {N : Nat} (harr : Cond.arrayClass .int ∈ lw_all) (hn : ¬ n < 0) (hN : n.toNatClampNeg = N) (hb : N ≤ 100000) (dg : decode cc pc = .ok (.newarray .int, 2))
    (kk : ∀ q : Nat, s.1 q = 0 → X κ (sG (kE κ) (nA s q 0 N)) u w (pc + 2) lv (.ref q :: st)) : X κ (sG (kE κ) s) (u + 1) (w + N) pc lv (.int n :: st) := by
  refine x_newa (atype := .int) (t := 0) (ty := .int) (a0 := (N, .inl (fun _ => 0))) hκ harr rfl rfl (fun C h => by cases h) (fun _ => rfl) hn hN (by show N * 4 ≤ _; omega) dg (fun q hq => ?_)
  rw [sG_nA (by decide)]
  exact kk q (sG_none hq)
theorem c_newz (hκ : Ok κ cc own d) {n : Int32} {N : Nat} (harr : Cond.arrayClass .boolean ∈ lw_all) (hn : ¬ n < 0) (hN : n.toNatClampNeg = N) (hb : N ≤ 100000) (dg : decode cc pc = .ok (.newarray .boolean, 2))
    (kk : ∀ q : Nat, s.1 q = 0 → X κ (sG (kE κ) (nA s q 1 N)) u w (pc + 2) lv (.ref q :: st)) : X κ (sG (kE κ) s) (u + 1) (w + N) pc lv (.int n :: st) := by
  refine x_newa (atype := .boolean) (t := 1) (ty := .boolean) (a0 := (N, .inl (fun _ => 0))) hκ harr rfl rfl (fun C h => by cases h) (fun _ => rfl) hn hN (by show N * 1 ≤ _; omega) dg (fun q hq => ?_)
  rw [sG_nA (by decide)]
  exact kk q (sG_none hq)
theorem c_newb (hκ : Ok κ cc own d) {n : Int32} {N : Nat} (harr : Cond.arrayClass .byte ∈ lw_all) (hn : ¬ n < 0) (hN : n.toNatClampNeg = N) (hb : N ≤ 100000) (dg : decode cc pc = .ok (.newarray .byte, 2))
    (kk : ∀ q : Nat, s.1 q = 0 → X κ (sG (kE κ) (nA s q 2 N)) u w (pc + 2) lv (.ref q :: st)) : X κ (sG (kE κ) s) (u + 1) (w + N) pc lv (.int n :: st) := by
  refine x_newa (atype := .byte) (t := 2) (ty := .byte) (a0 := (N, .inl (fun _ => 0))) hκ harr rfl rfl (fun C h => by cases h) (fun _ => rfl) hn hN (by show N * 1 ≤ _; omega) dg (fun q hq => ?_)
  rw [sG_nA (by decide)]
  exact kk q (sG_none hq)
theorem c_news (hκ : Ok κ cc own d) {n : Int32} {N : Nat} (harr : Cond.arrayClass .short ∈ lw_all) (hn : ¬ n < 0) (hN : n.toNatClampNeg = N) (hb : N ≤ 100000) (dg : decode cc pc = .ok (.newarray .short, 2))
    (kk : ∀ q : Nat, s.1 q = 0 → X κ (sG (kE κ) (nA s q 3 N)) u w (pc + 2) lv (.ref q :: st)) : X κ (sG (kE κ) s) (u + 1) (w + N) pc lv (.int n :: st) := by
  refine x_newa (atype := .short) (t := 3) (ty := .short) (a0 := (N, .inl (fun _ => 0))) hκ harr rfl rfl (fun C h => by cases h) (fun _ => rfl) hn hN (by show N * 2 ≤ _; omega) dg (fun q hq => ?_)
  rw [sG_nA (by decide)]
  exact kk q (sG_none hq)
theorem c_anew (hκ : Ok κ cc own d) {t idx : Nat} {C : String} (hcl : Cond.classLink own idx C ∈ lw_all) (hC : C ∈ ["java/lang/Object", RX16, RX2, RX3, RX7]) (ht : (tysAll (kE κ))[t]? = some ((kE κ).2 t, .object C)) {n : Int32} {N : Nat} (hn : ¬ n < 0) (hN : n.toNatClampNeg = N) (hb : N ≤ 100000) (dg : decode cc pc = .ok (.anewarray idx, 3))
    (kk : ∀ q : Nat, s.1 q = 0 → X κ (sG (kE κ) (nF s q t N)) u w (pc + 3) lv (.ref q :: st)) : X κ (sG (kE κ) s) (u + 1) (w + N) pc lv (.int n :: st) := by
  refine x_anew hκ hcl hC ht hn hN (by omega) dg (fun q hq => ?_)
  rw [sG_nF]
  exact kk q (sG_none hq)
/-! casts -/
theorem c_cast (hκ : Ok κ cc own d) {ci N a idx : Nat} {C : String} {T : u_T} {ty : Nat → FieldType} (hc : Cl ci C T N ty) (hK : s.1 a = ci + 1) (hlink : Cond.classLink own idx C ∈ lw_all) (dg : decode cc pc = .ok (.checkcast idx, 3)) (kk : X κ (sG (kE κ) s) u w (pc + 3) lv (.ref a :: st)) : X κ (sG (kE κ) s) u w pc lv (.ref a :: st) := x_castE hκ hlink (sG_o hK hc.2.2.2.2.2) hc.2.1 dg kk
end CR1
/-! contracts -/
def CMg (E : gE) (s : CSt) (y : MethodName) (cc : ByteArray) (nL : Nat) (ret : Option FieldType) (d mc ms : Nat) (As : List Value) (q : Option Value → CSt → Prop) : Prop := CM E y cc nL ret d mc ms As (sG E s) (fun v G => ∃ s' : CSt, G = sG E s' ∧ q v s')
abbrev qI (q : Int32 → CSt → Prop) : Option Value → CSt → Prop := fun v s => ∃ r : Int32, v = some (.int r) ∧ q r s
abbrev qV (q : CSt → Prop) : Option Value → CSt → Prop := fun v s => v = none ∧ q s
abbrev qR (q : Nat → CSt → Prop) : Option Value → CSt → Prop := fun v s => ∃ r : Nat, v = some (.ref r) ∧ q r s
/-- a reference or nothing -/
abbrev qO (q : Option Nat → CSt → Prop) : Option Value → CSt → Prop := fun v s => ∃ r : Option Nat, v = some (va_rf r) ∧ q r s
section CR2
variable {κ : Kx} {s : CSt} {u w pc d : Nat} {lv : List (Option Value)} {st : List Value} {cc : ByteArray} {own : String}
theorem CMg.of {E : gE} {y : MethodName} {nL : Nat} {ret : Option FieldType} {mc ms : Nat} {As : List Value} {q : Option Value → CSt → Prop} (hy : plainName y.cls = true) (hn : (lg_sl As).length ≤ nL)
    (body : ∀ κ : Kx, kE κ = E → kL κ = nL → Ok κ cc y.cls d → Rets κ ret (fun v G => ∃ s' : CSt, G = sG E s' ∧ q v s') → X κ (sG E s) mc ms 0 (loE As nL) []) : CMg E s y cc nL ret d mc ms As q := CM.of hy hn body
theorem c_callV (hκ : Ok κ cc own d) {y : MethodName} {cc' : ByteArray} {nL' : Nat} {ret' : Option FieldType} {d' mc ms b idx : Nat} {As rest : List Value} {C : String} {q : Option Value → CSt → Prop} (hM : CMg (kE κ) s y cc' nL' ret' d' mc ms (.ref b :: As) q) (hd : d' < d) (hL : nL' ≤ 45) (hw : GoodIn lw_all (wsV own idx C y (ws_ y cc' nL' ret')))
    (ha : y.cls = C ∧ y.cls ≠ "java/lang/invoke/MethodHandle" ∧ y.cls ≠ "java/lang/invoke/VarHandle" ∧ (parseMethodDescriptor y.desc).map (fun d => d.parameters.length) = some As.length) {ci N : Nat} {T : u_T} {ty : Nat → FieldType} (hc : Cl ci C T N ty) (hK : s.1 b = ci + 1) (hst : st = As.reverse ++ .ref b :: rest) (hrest : (rest.map fun v => v.category).sum ≤ 8) (dg : decode cc pc = .ok (.invokevirtual idx, 3))
    (kk : ∀ (v : Option Value) (s' : CSt), q v s' → X κ (sG (kE κ) s') u w (pc + 3) lv (v.toList ++ rest)) : X κ (sG (kE κ) s) (u + mc) (w + ms) pc lv st :=
  x_callV hκ hM hd hL hw ha (sG_o hK hc.2.2.2.2.2) hc.2.1 hst hrest dg (by rintro v G' ⟨s', rfl, hq⟩; exact kk v s' hq)
theorem c_callVN (hκ : Ok κ cc own d) {y : MethodName} {cc' : ByteArray} {nL' : Nat} {ret' : Option FieldType} {d' mc ms b idx : Nat} {As rest : List Value} {C host : String} {q : Option Value → CSt → Prop} (hM : CMg (kE κ) s y cc' nL' ret' d' mc ms (.ref b :: As) q) (hd : d' < d) (hL : nL' ≤ 45) (hw : Cond.code y cc' nL' ret' ∈ lw_all) (hini : Cond.initialized y.cls ∈ lw_all) (hlk : Cond.methodLinkNest own idx y host ∈ lw_tbl) (hinst : Cond.instanceMethod y ∈ lw_all) (hsel : Cond.selects C y y ∈ lw_all)
    (ha : y.cls = C ∧ y.cls ≠ "java/lang/invoke/MethodHandle" ∧ y.cls ≠ "java/lang/invoke/VarHandle" ∧ (parseMethodDescriptor y.desc).map (fun d => d.parameters.length) = some As.length) {ci N : Nat} {T : u_T} {ty : Nat → FieldType} (hc : Cl ci C T N ty) (hK : s.1 b = ci + 1) (hst : st = As.reverse ++ .ref b :: rest) (hrest : (rest.map fun v => v.category).sum ≤ 8) (dg : decode cc pc = .ok (.invokevirtual idx, 3))
    (kk : ∀ (v : Option Value) (s' : CSt), q v s' → X κ (sG (kE κ) s') u w (pc + 3) lv (v.toList ++ rest)) : X κ (sG (kE κ) s) (u + mc) (w + ms) pc lv st :=
  x_callVN hκ hM hd hL hw hini hlk hinst hsel ha.2 (sG_o hK hc.2.2.2.2.2) hc.2.1 hst hrest dg (by rintro v G' ⟨s', rfl, hq⟩; exact kk v s' hq)
theorem c_callS (hκ : Ok κ cc own d) {y : MethodName} {cc' : ByteArray} {nL' : Nat} {ret' : Option FieldType} {d' mc ms idx : Nat} {As rest : List Value} {q : Option Value → CSt → Prop} (hM : CMg (kE κ) s y cc' nL' ret' d' mc ms As q) (hd : d' < d) (hL : nL' ≤ 45) (hw : GoodIn lw_all (va_wsS own idx y (ws_ y cc' nL' ret')))
    (ha : y.cls ≠ "java/lang/invoke/MethodHandle" ∧ y.cls ≠ "java/lang/invoke/VarHandle" ∧ (parseMethodDescriptor y.desc).map (fun d => d.parameters.length) = some As.length) (hst : st = As.reverse ++ rest) (hrest : (rest.map fun v => v.category).sum ≤ 8) (dg : decode cc pc = .ok (.invokestatic idx, 3))
    (kk : ∀ (v : Option Value) (s' : CSt), q v s' → X κ (sG (kE κ) s') u w (pc + 3) lv (v.toList ++ rest)) : X κ (sG (kE κ) s) (u + mc) (w + ms) pc lv st :=
  x_callS hκ hM hd hL hw ha hst hrest dg (by rintro v G' ⟨s', rfl, hq⟩; exact kk v s' hq)
theorem c_callI (hκ : Ok κ cc own d) {y : MethodName} {cc' : ByteArray} {nL' : Nat} {d' mc ms b idx : Nat} {As rest : List Value} {q : CSt → Prop} (hM : CMg (kE κ) s y cc' nL' none d' mc ms (.ref b :: As) (qV q)) (hd : d' < d) (hL : nL' ≤ 45) (hw : Cond.code y cc' nL' none ∈ lw_all) (hini : Cond.initialized y.cls ∈ lw_all) (hlk : Cond.methodLink own idx y ∈ lw_all) (hinst : Cond.instanceMethod y ∈ lw_all) (hyn : y.name = "<init>")
    (ha : y.cls ≠ "java/lang/invoke/MethodHandle" ∧ y.cls ≠ "java/lang/invoke/VarHandle" ∧ (parseMethodDescriptor y.desc).map (fun d => d.parameters.length) = some As.length) (hst : st = As.reverse ++ .ref b :: rest) (hrest : (rest.map fun v => v.category).sum ≤ 8) (dg : decode cc pc = .ok (.invokespecial idx, 3))
    (kk : ∀ s' : CSt, q s' → X κ (sG (kE κ) s') u w (pc + 3) lv rest) : X κ (sG (kE κ) s) (u + mc) (w + ms) pc lv st :=
  x_callI hκ hM hd hL hw hini hlk hinst hyn ha hst hrest dg (by rintro v G' ⟨s', rfl, rfl, hq⟩; exact kk s' hq)
theorem c_callIN (hκ : Ok κ cc own d) {y : MethodName} {cc' : ByteArray} {nL' : Nat} {d' mc ms b idx : Nat} {As rest : List Value} {host : String} {q : CSt → Prop} (hM : CMg (kE κ) s y cc' nL' none d' mc ms (.ref b :: As) (qV q)) (hd : d' < d) (hL : nL' ≤ 45) (hw : Cond.code y cc' nL' none ∈ lw_all) (hini : Cond.initialized y.cls ∈ lw_all) (hlk : Cond.methodLinkNest own idx y host ∈ lw_tbl) (hinst : Cond.instanceMethod y ∈ lw_all) (hyn : y.name = "<init>")
    (ha : y.cls ≠ "java/lang/invoke/MethodHandle" ∧ y.cls ≠ "java/lang/invoke/VarHandle" ∧ (parseMethodDescriptor y.desc).map (fun d => d.parameters.length) = some As.length) (hst : st = As.reverse ++ .ref b :: rest) (hrest : (rest.map fun v => v.category).sum ≤ 8) (dg : decode cc pc = .ok (.invokespecial idx, 3))
    (kk : ∀ s' : CSt, q s' → X κ (sG (kE κ) s') u w (pc + 3) lv rest) : X κ (sG (kE κ) s) (u + mc) (w + ms) pc lv st :=
  x_callIN hκ hM hd hL hw hini hlk hinst hyn ha hst hrest dg (by rintro v G' ⟨s', rfl, rfl, hq⟩; exact kk s' hq)
/-- what a call through an interface asks of the tables -/
def IW (own : String) (idx : Nat) (C : String) (x y : MethodName) (cc : ByteArray) (nL : Nat) (ret : Option FieldType) : Prop := GoodIn lw_all (va_wsF own idx C x y (ws_ y cc nL ret)) ∧ Cond.declares x ∈ lw_tbl ∧ Cond.interfaceMethod x.cls x.cls x.name x.desc ∈ lw_tbl ∧ nwW (Cond.interfaceMethod x.cls x.cls x.name x.desc) = true ∧ Cond.publicMethod y ∈ lw_tbl ∧ Cond.unhidden C x.name x.desc ∈ lw_tbl ∧ Cond.castable C x.cls ∈ lw_tbl
theorem c_callF (hκ : Ok κ cc own d) {x y : MethodName} {cc' : ByteArray} {nL' : Nat} {ret' : Option FieldType} {d' mc ms b idx count : Nat} {As rest : List Value} {C : String} {q : Option Value → CSt → Prop} (hM : CMg (kE κ) s y cc' nL' ret' d' mc ms (.ref b :: As) q) (hd : d' < d) (hL : nL' ≤ 45) (hw : IW own idx C x y cc' nL' ret')
    (ha : x.cls ≠ "java/lang/invoke/MethodHandle" ∧ x.cls ≠ "java/lang/invoke/VarHandle" ∧ (parseMethodDescriptor x.desc).map (fun d => d.parameters.length) = some As.length) {ci N : Nat} {T : u_T} {ty : Nat → FieldType} (hc : Cl ci C T N ty) (hK : s.1 b = ci + 1) (hst : st = As.reverse ++ .ref b :: rest) (hrest : (rest.map fun v => v.category).sum ≤ 8) (dg : decode cc pc = .ok (.invokeinterface idx count, 5))
    (kk : ∀ (v : Option Value) (s' : CSt), q v s' → X κ (sG (kE κ) s') u w (pc + 5) lv (v.toList ++ rest)) : X κ (sG (kE κ) s) (u + mc) (w + ms) pc lv st :=
  x_callF hκ hM hd hL hw.1 hw.2.1 hw.2.2.1 hw.2.2.2.1 hw.2.2.2.2.1 hw.2.2.2.2.2.1 hw.2.2.2.2.2.2 ha (sG_o hK hc.2.2.2.2.2) hc.2.1 hst hrest dg (by rintro v G' ⟨s', rfl, hq⟩; exact kk v s' hq)
theorem c_reti {q : Int32 → CSt → Prop} (hκ : Ok κ cc own d) (hr : Rets κ (some .int) (fun v G => ∃ s' : CSt, G = sG (kE κ) s' ∧ qI q v s')) {x : Int32} (dg : decode cc pc = .ok (.ireturn, 1)) (h : q x s) : X κ (sG (kE κ) s) u w pc lv [.int x] := x_ireturn hκ hr dg ⟨s, rfl, x, rfl, h⟩
theorem c_retz {q : Int32 → CSt → Prop} (hκ : Ok κ cc own d) (hr : Rets κ (some .boolean) (fun v G => ∃ s' : CSt, G = sG (kE κ) s' ∧ qI q v s')) {x : Int32} (dg : decode cc pc = .ok (.ireturn, 1)) (hx : x = 0 ∨ x = 1) (h : q x s) : X κ (sG (kE κ) s) u w pc lv [.int x] := x_zreturn hκ hr dg hx ⟨s, rfl, x, rfl, h⟩
theorem c_retv {q : CSt → Prop} (hκ : Ok κ cc own d) (hr : Rets κ none (fun v G => ∃ s' : CSt, G = sG (kE κ) s' ∧ qV q v s')) (dg : decode cc pc = .ok (.return_, 1)) (h : q s) : X κ (sG (kE κ) s) u w pc lv [] := x_return hκ hr dg ⟨s, rfl, rfl, h⟩
theorem c_retr {q : Nat → CSt → Prop} {rt : FieldType} (hκ : Ok κ cc own d) (hr : Rets κ (some rt) (fun v G => ∃ s' : CSt, G = sG (kE κ) s' ∧ qR q v s')) (hrt : (∃ n, rt = .object n) ∨ ∃ t, rt = .array t) {x : Nat} (dg : decode cc pc = .ok (.areturn, 1)) (h : q x s) : X κ (sG (kE κ) s) u w pc lv [.ref x] := x_areturn hκ hr hrt (Or.inr ⟨x, rfl⟩) dg ⟨s, rfl, x, rfl, h⟩
theorem c_reto {q : Option Nat → CSt → Prop} {rt : FieldType} (hκ : Ok κ cc own d) (hr : Rets κ (some rt) (fun v G => ∃ s' : CSt, G = sG (kE κ) s' ∧ qO q v s')) (hrt : (∃ n, rt = .object n) ∨ ∃ t, rt = .array t) {x : Option Nat} (dg : decode cc pc = .ok (.areturn, 1)) (h : q x s) : X κ (sG (kE κ) s) u w pc lv [va_rf x] := x_areturn hκ hr hrt (by cases x with | none => exact Or.inl rfl | some v => exact Or.inr ⟨v, rfl⟩) dg ⟨s, rfl, x, rfl, h⟩
end CR2
/-! the classes -/
theorem kX0 : Cl 1 RX0 TX0 22 tyX0 := ⟨in_X0, rfl, rfl, tyX0_ok, nmX0, by decide⟩
theorem kX1 : Cl 2 RX1 TX1 7 tyX1 := ⟨in_X1, rfl, rfl, tyX1_ok, nmX1, by decide⟩
theorem kX2 : Cl 3 RX2 TX2 6 tyX2 := ⟨in_X2, rfl, rfl, tyX2_ok, nmX2, by decide⟩
theorem kX3 : Cl 4 RX3 TX3 2 tyX3 := ⟨in_X3, rfl, rfl, tyX3_ok, nmX3, by decide⟩
theorem kX4 : Cl 5 RX4 TX4 2 tyX4 := ⟨in_X4, rfl, rfl, tyX4_ok, nmX4, by decide⟩
theorem kX5 : Cl 6 RX5 TX5 10 tyX5 := ⟨in_X5, rfl, rfl, tyX5_ok, nmX5, by decide⟩
theorem kX6 : Cl 7 RX6 TX6 1 tyX6 := ⟨in_X6, rfl, rfl, tyX6_ok, nmX6, by decide⟩
theorem kX7 : Cl 8 RX7 TX7 1 tyX7 := ⟨in_X7, rfl, rfl, tyX7_ok, nmX7, by decide⟩
theorem kX9 : Cl 9 RX9 TX9 4 tyX9 := ⟨in_X9, rfl, rfl, tyX9_ok, nmX9, by decide⟩
theorem kX10 : Cl 10 RX10 TX10 1 tyX10 := ⟨in_X10, rfl, rfl, tyX10_ok, nmX10, by decide⟩
theorem kX12 : Cl 11 RX12 TX12 3 tyX12 := ⟨in_X12, rfl, rfl, tyX12_ok, nmX12, by decide⟩
theorem kX14 : Cl 12 RX14 TX14 2 tyX14 := ⟨in_X14, rfl, rfl, tyX14_ok, nmX14, by decide⟩
theorem kX15 : Cl 13 RX15 TX15 2 tyX15 := ⟨in_X15, rfl, rfl, tyX15_ok, nmX15, by decide⟩
theorem kX16 : Cl 14 RX16 TX16 9 tyX16 := ⟨in_X16, rfl, rfl, tyX16_ok, nmX16, by decide⟩
theorem kX17 : Cl 15 RX17 TX17 3 tyX17 := ⟨in_X17, rfl, rfl, tyX17_ok, nmX17, by decide⟩
theorem kJ2 : Cl 16 RJ2 TJ2 3 tyJ2 := ⟨in_J2, rfl, rfl, tyJ2_ok, nmJ2, by decide⟩
theorem kX11 : Cl 17 RX11 TX11 0 (fun _ => .int) := ⟨fun w h => (by cases h), rfl, rfl, fun k h => absurd h (Nat.not_lt_zero k), fun k h => absurd h (Nat.not_lt_zero k), by decide⟩
/-! ends of calls -/
section CR3
variable {κ : Kx} {s : CSt} {u w pc : Nat} {lv : List (Option Value)} {st : List Value}
theorem jI {q : Int32 → CSt → Prop} (kk : ∀ (r : Int32) (s' : CSt), q r s' → X κ (sG (kE κ) s') u w pc lv (.int r :: st)) : ∀ (v : Option Value) (s' : CSt), qI q v s' → X κ (sG (kE κ) s') u w pc lv (v.toList ++ st) := by
  rintro v s' ⟨r, rfl, h⟩
  exact kk r s' h
theorem jIr {q : Int32 → Prop} (kk : ∀ (r : Int32), q r → X κ (sG (kE κ) s) u w pc lv (.int r :: st)) : ∀ (v : Option Value) (s' : CSt), qI (fun r s' => q r ∧ s' = s) v s' → X κ (sG (kE κ) s') u w pc lv (v.toList ++ st) := by
  rintro v s' ⟨r, rfl, h, rfl⟩
  exact kk r h
theorem jV {q : CSt → Prop} (kk : ∀ (s' : CSt), q s' → X κ (sG (kE κ) s') u w pc lv st) : ∀ (v : Option Value) (s' : CSt), qV q v s' → X κ (sG (kE κ) s') u w pc lv (v.toList ++ st) := by
  rintro v s' ⟨rfl, h⟩
  exact kk s' h
theorem jR {q : Nat → CSt → Prop} (kk : ∀ (r : Nat) (s' : CSt), q r s' → X κ (sG (kE κ) s') u w pc lv (.ref r :: st)) : ∀ (v : Option Value) (s' : CSt), qR q v s' → X κ (sG (kE κ) s') u w pc lv (v.toList ++ st) := by
  rintro v s' ⟨r, rfl, h⟩
  exact kk r s' h
theorem jRr {q : Nat → Prop} (kk : ∀ (r : Nat), q r → X κ (sG (kE κ) s) u w pc lv (.ref r :: st)) : ∀ (v : Option Value) (s' : CSt), qR (fun r s' => q r ∧ s' = s) v s' → X κ (sG (kE κ) s') u w pc lv (v.toList ++ st) := by
  rintro v s' ⟨r, rfl, h, rfl⟩
  exact kk r h
theorem jO {q : Option Nat → CSt → Prop} (kk : ∀ (r : Option Nat) (s' : CSt), q r s' → X κ (sG (kE κ) s') u w pc lv (va_rf r :: st)) : ∀ (v : Option Value) (s' : CSt), qO q v s' → X κ (sG (kE κ) s') u w pc lv (v.toList ++ st) := by
  rintro v s' ⟨r, rfl, h⟩
  exact kk r s' h
theorem jOr {q : Option Nat → Prop} (kk : ∀ (r : Option Nat), q r → X κ (sG (kE κ) s) u w pc lv (va_rf r :: st)) : ∀ (v : Option Value) (s' : CSt), qO (fun r s' => q r ∧ s' = s) v s' → X κ (sG (kE κ) s') u w pc lv (v.toList ++ st) := by
  rintro v s' ⟨r, rfl, h, rfl⟩
  exact kk r h
end CR3
theorem zn_n {v : Int32} (h : v = 0 ∨ v = 1) : narrow .boolean (.int v) = .int v := by rcases h with rfl | rfl <;> rfl
theorem zn_f {v : Int32} (h : v = 0 ∨ v = 1) : fits .boolean (.int v) = true := by rcases h with rfl | rfl <;> rfl
theorem zn_v {v : Int32} (h : v = 0 ∨ v = 1) : vp_nar .boolean v = v := by rcases h with rfl | rfl <;> rfl
/-! fields that a class has from its parent, named through the class; constructors -/
theorem CM.ofN {E : gE} {y : MethodName} {cc : ByteArray} {nL : Nat} {ret : Option FieldType} {d mc ms : Nat} {av : List Value} {G : gH} {p : Option Value → gH → Prop} (hy : plainName y.cls = true) (hn : (lg_sl av).length ≤ nL)
    (body : ∀ κ : Kx, kE κ = E → kL κ = nL → Ok κ cc y.cls d → Rets κ ret p → (kme κ).name = y.name → X κ G mc ms 0 (loE av nL) []) : CM E y cc nL ret d mc ms av G p := by
  intro l A
  refine Met.ofW (cc := cc) (maxL := nL) (ret := ret) hy rfl ?_
  intro p0 e s m args below meth c s₁ B hml hv
  obtain ⟨rfl, ⟨hK, hZ⟩, hA, hP, hI⟩ := hv
  have hts := atoms_spec (ws := ws_ y cc nL ret) B.pre
  have hts : ∀ w ∈ lw_all, w.before _ s = true := fun w h => hts w (List.mem_cons_of_mem _ h)
  have hown : s.vm.findClass y.cls = some m.cls := findClass_of_methodNamed B.named
  have hname : meth.name = y.name := (name_of_methodNamed B.named B.method).1
  rw [lg_entry_eq]
  exact body (p0, l, e, (headSpec (ws_ y cc nL ret) (rmL d mc ms)).room, s, m, av.toArray, below, meth, c, E, A, nL, MQ below (gQ E A p) av.toArray s mc ms A) rfl rfl
    ⟨B.exec, B.bytes, hml, hown, hts, B.notSynchronized, hK, hA, rfl, rfl, hZ⟩ ⟨B.returns, rfl⟩ hname s.heap [] _ 0 0 hP hI va_S.rf (lo_entry av hn) (Nat.le_of_eq (Nat.zero_add _)) (Nat.le_of_eq (Nat.zero_add _))
theorem CMg.ofN {E : gE} {s : CSt} {cc : ByteArray} {d : Nat} {y : MethodName} {nL : Nat} {ret : Option FieldType} {mc ms : Nat} {As : List Value} {q : Option Value → CSt → Prop} (hy : plainName y.cls = true) (hn : (lg_sl As).length ≤ nL)
    (body : ∀ κ : Kx, kE κ = E → kL κ = nL → Ok κ cc y.cls d → Rets κ ret (fun v G => ∃ s' : CSt, G = sG E s' ∧ q v s') → (kme κ).name = y.name → X κ (sG E s) mc ms 0 (loE As nL) []) : CMg E s y cc nL ret d mc ms As q := CM.ofN hy hn body
section CR4
variable {κ : Kx} {s : CSt} {u w pc d : Nat} {lv : List (Option Value)} {st : List Value} {cc : ByteArray} {own : String}
theorem c_getS (hκ : Ok κ cc own d) {ci N a : Nat} {C ref : String} {T : u_T} {ty : Nat → FieldType} (hc : Cl ci C T N ty) (hK : s.1 a = ci + 1) (k : Nat) {idx : Nat} (hk : k < N) (hlink : Cond.fieldLink own idx ref (T k).2.1 (T k).2.2.1 ∈ lw_all) (hsame : Cond.sameField ref (T k).1 (T k).2.1 (T k).2.2.1 ∈ lw_all) {v : Value} (hv : s.2.1 a k = v) (dg : decode cc pc = .ok (.getfield idx, 3)) (kk : X κ (sG (kE κ) s) u w (pc + 3) lv (v :: st)) : X κ (sG (kE κ) s) u w pc lv (.ref a :: st) := fun H locs ls i j hP hI hS hl hi hj => by
  have he : sG (kE κ) s a = some (.inr (ci, oFs s a (nfl ci))) := sG_o hK hc.2.2.2.2.2
  have hv2 : (oFs s a (nfl ci))[k]? = some v := by rw [oFs_at (by rw [hc.2.2.1]; exact hk), hv]
  obtain ⟨q, hq⟩ := gl_at hP he
  exact va_get hκ.1 hκ.2.1 hκ.2.2.2.2.1 hc.1 hκ.2.2.2.1 hκ.k (gl_P hP H.size) q hq hc.2.1 k hk (hκ.2.2.2.2.1 _ hlink) (fun x hx => u_same (hκ.2.2.2.2.1 _ hsame) x hx) hv2 dg (kk H locs ls i j hP hI hS hl hi hj)
theorem c_putS (hκ : Ok κ cc own d) {ci N a : Nat} {C ref : String} {T : u_T} {ty0 : Nat → FieldType} (hc : Cl ci C T N ty0) (hK : s.1 a = ci + 1) (k : Nat) {idx : Nat} (hk : k < N) (hlink : Cond.fieldLink own idx ref (T k).2.1 (T k).2.2.1 ∈ lw_all) (hsame : Cond.sameField ref (T k).1 (T k).2.1 (T k).2.2.1 ∈ lw_all) (hfin : (T k).2.2.2 = false) {v : Value} (hn : narrow (ty0 k) v = v) (hfit : fits (ty0 k) v = true) (dg : decode cc pc = .ok (.putfield idx, 3)) (kk : X κ (sG (kE κ) (oS s a k v)) u w (pc + 3) lv st) : X κ (sG (kE κ) s) u w pc lv (v :: .ref a :: st) := fun H locs ls i j hP hI hS hl hi hj => by
  have he : sG (kE κ) s a = some (.inr (ci, oFs s a (nfl ci))) := sG_o hK hc.2.2.2.2.2
  rw [← sG_put hK hc.2.2.2.2.2] at kk
  obtain ⟨q, hq⟩ := gl_at hP he
  exact va_put hκ.1 hκ.2.1 hκ.2.2.2.2.1 hc.1 ty0 hc.2.2.2.1 hc.2.2.2.2.1 hκ.2.2.2.1 hκ.k (gl_P hP H.size) (gl_D hI H.size) hS q hq hc.2.1 k hk (hκ.2.2.2.2.1 _ hlink) (fun x hx => u_same (hκ.2.2.2.2.1 _ hsame) x hx) hfin (hc.2.2.2.1 k hk) hn hfit (by rw [oFs_len, hc.2.2.1]; exact hk) dg
    (fun H1 locs1 hP1 _ hS1 => kk H1 locs1 ls i j (gl_set hP hq hP1) (gIn_U hI (hI a _ he)) hS1 hl hi hj)
end CR4
section CR5
variable {κ : Kx} {G : gH} {u w pc d : Nat} {lv : List (Option Value)} {st : List Value} {cc : ByteArray} {own : String}
theorem x_mmax (hκ : Ok κ cc own d) {idx : Nat} (hlk : Cond.methodLink own idx Lib.Math.max.name ∈ lw_all) (hd : 0 < d) (hrest : (st.map fun v => v.category).sum ≤ 8) {x y v : Int32} (hv : (if x < y then y else x) = v) (dg : decode cc pc = .ok (.invokestatic idx, 3)) (kk : X κ G u w (pc + 3) lv (.int v :: st)) : X κ G u w pc lv (.int y :: .int x :: st) := fun H locs ls i j hP hI hS hl hi hj => by
  subst hv
  have h := hκ.2.2.2.2.1
  refine va_mmax hκ.1 hκ.2.1 (by rw [hκ.2.2.1]; exact hl.1.symm) hκ.2.2.2.1 (h _ hlk) (h _ q331) (h _ q90) (h _ q332) (by rw [hκ.2.2.2.2.2.2.2.2.1]; exact hd) (by rw [hκ.2.2.2.2.2.2.2.2.2.1]; omega) (by omega) (by omega) dg (kk H locs ls i j hP hI hS hl hi hj)
theorem x_mmin (hκ : Ok κ cc own d) {idx : Nat} (hlk : Cond.methodLink own idx Lib.Math.min.name ∈ lw_all) (hd : 0 < d) (hrest : (st.map fun v => v.category).sum ≤ 8) {x y v : Int32} (hv : (if y < x then y else x) = v) (dg : decode cc pc = .ok (.invokestatic idx, 3)) (kk : X κ G u w (pc + 3) lv (.int v :: st)) : X κ G u w pc lv (.int y :: .int x :: st) := fun H locs ls i j hP hI hS hl hi hj => by
  subst hv
  have h := hκ.2.2.2.2.1
  refine va_mmin hκ.1 hκ.2.1 (by rw [hκ.2.2.1]; exact hl.1.symm) hκ.2.2.2.1 (h _ hlk) (h _ q373) (h _ q90) (h _ q374) (by rw [hκ.2.2.2.2.2.2.2.2.1]; exact hd) (by rw [hκ.2.2.2.2.2.2.2.2.2.1]; omega) (by omega) (by omega) dg (kk H locs ls i j hP hI hS hl hi hj)
/-- getClass() of an array of Object -/
theorem x_getC (hκ : Ok κ cc own d) {idx a : Nat} {x : vp_A} (hlk : Cond.methodLink own idx ⟨"java/lang/Object", "getClass", "()Ljava/lang/Class;"⟩ ∈ lw_all) (hsel : Cond.selects "[Ljava/lang/Object;" ⟨"java/lang/Object", "getClass", "()Ljava/lang/Class;"⟩ ⟨"java/lang/Object", "getClass", "()Ljava/lang/Class;"⟩ ∈ lw_all) (he : G a = some (.inl ((kE κ).2 4, x))) (hd : 0 < d) (hrest : (st.map fun v => v.category).sum ≤ 8) (dg : decode cc pc = .ok (.invokevirtual idx, 3)) (kk : X κ G u w (pc + 3) lv (.ref ((kE κ).2 21) :: st)) : X κ G u w pc lv (.ref a :: st) := fun H locs ls i j hP hI hS hl hi hj => by
  have h := hκ.2.2.2.2.1
  refine va_getC hκ.1 hκ.2.1 (by rw [hκ.2.2.1]; exact hl.1.symm) hκ.2.2.2.1 (h _ hlk) (va_Nw.use rfl (hκ.nw q1638 rfl)) (h _ hsel) (h _ q341) (h _ q365) hκ.z.2.2.2.2.1 (x_recvA hκ hP he (t := 4) rfl rfl) (by rw [hκ.2.2.2.2.2.2.2.2.1]; exact hd) (by rw [hκ.2.2.2.2.2.2.2.2.2.1]; omega) dg (kk H locs ls i j hP hI hS hl hi hj)
end CR5
/-! references are copied -/
def fB (s : CSt) (a : Nat) (g : Nat → Option Nat) : CSt := (s.1, s.2.1, s.2.2.1, fun b j => if b = a then g j else s.2.2.2.1 b j, s.2.2.2.2)
theorem fB_k {s : CSt} {a : Nat} {g : Nat → Option Nat} : (fB s a g).1 = s.1 := rfl
theorem fB_o {s : CSt} {a : Nat} {g : Nat → Option Nat} : (fB s a g).2.1 = s.2.1 := rfl
theorem fB_a {s : CSt} {a : Nat} {g : Nat → Option Nat} : (fB s a g).2.2.1 = s.2.2.1 := rfl
theorem fB_f {s : CSt} {a b j : Nat} {g : Nat → Option Nat} : (fB s a g).2.2.2.1 b j = if b = a then g j else s.2.2.2.1 b j := rfl
theorem fB_n {s : CSt} {a : Nat} {g : Nat → Option Nat} : (fB s a g).2.2.2.2 = s.2.2.2.2 := rfl
theorem sG_fB {E : gE} {s : CSt} {a t : Nat} {g : Nat → Option Nat} (h : s.1 a = 40 + t) : gU (sG E s) a (.inl (E.2 t, aR (s.2.2.2.2 a) g)) = sG E (fB s a g) := by
  funext b
  unfold gU
  by_cases hb : b = a
  · subst hb
    rw [if_pos rfl, sG_f (s := fB s b g) (t := t) (by rw [fB_k]; exact h), fB_n]
    have e : g = (fB s b g).2.2.2.1 b := by
      funext j
      rw [fB_f, if_pos rfl]
    rw [← e]
  · rw [if_neg hb]
    have e : (fB s a g).2.2.2.1 b = s.2.2.2.1 b := by
      funext j
      rw [fB_f, if_neg hb]
    unfold sG
    rw [e]
    rfl
/-- the address holds an object that an array of Object may hold -/
def ObK (s : CSt) (q : Nat) : Prop := ∃ (ci : Nat) (C : String) (T : u_T) (N : Nat) (ty : Nat → FieldType), Cl ci C T N ty ∧ s.1 q = ci + 1 ∧ Cond.castable C "java/lang/Object" ∈ lw_tbl
theorem ObK.is {E : gE} {s : CSt} {q : Nat} (h : ObK s q) : isOb (sG E s) q := by
  obtain ⟨ci, C, T, N, ty, h1, h2, h3⟩ := h
  exact ⟨ci, (C, T, N), _, sG_o h2 h1.2.2.2.2.2, h1.2.1, h3⟩
theorem ObK.ne {s : CSt} {q : Nat} (h : ObK s q) : s.1 q ≠ 0 ∧ s.1 q < 20 := by
  obtain ⟨ci, C, T, N, ty, h1, h2, h3⟩ := h
  have := h1.2.2.2.2.2
  omega
theorem ObK.of {s s' : CSt} {q : Nat} (h : ObK s q) (e : s'.1 q = s.1 q) : ObK s' q := by
  obtain ⟨ci, C, T, N, ty, h1, h2, h3⟩ := h
  exact ⟨ci, C, T, N, ty, h1, e.trans h2, h3⟩
/-- all that stood outside of P stands as it did -/
def Kp (P : Nat → Prop) (s s' : CSt) : Prop := ∀ b, s.1 b ≠ 0 → ¬ P b → s'.1 b = s.1 b ∧ (∀ k, s'.2.1 b k = s.2.1 b k) ∧ (∀ i, s'.2.2.1 b i = s.2.2.1 b i) ∧ (∀ i, s'.2.2.2.1 b i = s.2.2.2.1 b i) ∧ s'.2.2.2.2 b = s.2.2.2.2 b
theorem Kp.rfl {P : Nat → Prop} {s : CSt} : Kp P s s := fun _ _ _ => ⟨Eq.refl _, fun _ => Eq.refl _, fun _ => Eq.refl _, fun _ => Eq.refl _, Eq.refl _⟩
theorem Kp.trans {P Q : Nat → Prop} {s s1 s2 : CSt} (h1 : Kp P s s1) (h2 : Kp Q s1 s2) (hPQ : ∀ b, s.1 b ≠ 0 → Q b → P b) : Kp P s s2 := fun b hb hp => by
  have e1 := h1 b hb hp
  have e2 := h2 b (by rw [e1.1]; exact hb) (fun z => hp (hPQ b hb z))
  exact ⟨e2.1.trans e1.1, fun k => (e2.2.1 k).trans (e1.2.1 k), fun k => (e2.2.2.1 k).trans (e1.2.2.1 k), fun k => (e2.2.2.2.1 k).trans (e1.2.2.2.1 k), e2.2.2.2.2.trans e1.2.2.2.2⟩
theorem Kp.mono {P Q : Nat → Prop} {s s1 : CSt} (h1 : Kp P s s1) (hPQ : ∀ b, s.1 b ≠ 0 → P b → Q b) : Kp Q s s1 := fun b hb hp => h1 b hb (fun z => hp (hPQ b hb z))
theorem Kp.oS {P : Nat → Prop} {s : CSt} {a k : Nat} {v : Value} (h : P a) : Kp P s (oS s a k v) := fun b _ hp => ⟨Eq.refl _, fun j => by rw [oS_o, if_neg (fun z => hp (by rw [z.1]; exact h))], fun _ => Eq.refl _, fun _ => Eq.refl _, Eq.refl _⟩
theorem Kp.aS {P : Nat → Prop} {s : CSt} {a k : Nat} {v : Int32} (h : P a) : Kp P s (aS s a k v) := fun b _ hp => ⟨Eq.refl _, fun _ => Eq.refl _, fun j => by rw [aS_a, if_neg (fun z => hp (by rw [z.1]; exact h))], fun _ => Eq.refl _, Eq.refl _⟩
theorem Kp.fS {P : Nat → Prop} {s : CSt} {a k : Nat} {v : Option Nat} (h : P a) : Kp P s (fS s a k v) := fun b _ hp => ⟨Eq.refl _, fun _ => Eq.refl _, fun _ => Eq.refl _, fun j => by rw [fS_f, if_neg (fun z => hp (by rw [z.1]; exact h))], Eq.refl _⟩
theorem Kp.fB {P : Nat → Prop} {s : CSt} {a : Nat} {g : Nat → Option Nat} (h : P a) : Kp P s (fB s a g) := fun b _ hp => ⟨Eq.refl _, fun _ => Eq.refl _, fun _ => Eq.refl _, fun j => by rw [fB_f, if_neg (fun z => hp (by rw [z]; exact h))], Eq.refl _⟩
theorem Kp.nO {P : Nat → Prop} {s : CSt} {q ci : Nat} {fs : List Value} (h : s.1 q = 0) : Kp P s (nO s q ci fs) := fun b hb _ => by
  have e : b ≠ q := fun z => hb (by rw [z]; exact h)
  exact ⟨by rw [nO_k, if_neg e], fun j => by rw [nO_o, if_neg e], fun _ => Eq.refl _, fun _ => Eq.refl _, Eq.refl _⟩
theorem Kp.nA {P : Nat → Prop} {s : CSt} {q t n : Nat} (h : s.1 q = 0) : Kp P s (nA s q t n) := fun b hb _ => by
  have e : b ≠ q := fun z => hb (by rw [z]; exact h)
  exact ⟨by rw [nA_k, if_neg e], fun _ => Eq.refl _, fun j => by rw [nA_a, if_neg e], fun _ => Eq.refl _, by rw [nA_n, if_neg e]⟩
theorem Kp.nF {P : Nat → Prop} {s : CSt} {q t n : Nat} (h : s.1 q = 0) : Kp P s (nF s q t n) := fun b hb _ => by
  have e : b ≠ q := fun z => hb (by rw [z]; exact h)
  exact ⟨by rw [nF_k, if_neg e], fun _ => Eq.refl _, fun _ => Eq.refl _, fun j => by rw [nF_f, if_neg e], by rw [nF_n, if_neg e]⟩
section CR6
variable {κ : Kx} {s : CSt} {u w pc d : Nat} {lv : List (Option Value)} {st : List Value} {cc : ByteArray} {own : String}
theorem c_copyq (hκ : Ok κ cc own d) {idx : Nat} (hlink : Cond.methodLink own idx arraycopyName ∈ lw_all) (hnat : Cond.native arraycopyName ∈ lw_all) (hstat : Cond.static arraycopyName ∈ lw_all) (hini : Cond.initialized "java/lang/System" ∈ lw_all) {a0 a n0 n1 : Nat} (h0 : s.1 a0 = 44) (h1 : s.1 a = 44) (hn0 : s.2.2.2.2 a0 = n0) (hn1 : s.2.2.2.2 a = n1)
    {sp dp n : Int32} {s1 d1 m1 : Nat} (e1 : ¬ sp < 0) (e2 : ¬ dp < 0) (e3 : ¬ n < 0) (e4 : sp.toNatClampNeg = s1) (e5 : dp.toNatClampNeg = d1) (e6 : n.toNatClampNeg = m1) (h4 : s1 + m1 ≤ n0) (h5 : d1 + m1 ≤ n1) (hel : ∀ i : Nat, i < m1 → ∀ y : Nat, s.2.2.2.1 a0 (s1 + i) = some y → ObK s y) (hd : 0 < d) (hrest : (st.map fun v => v.category).sum ≤ 8) (dg : decode cc pc = .ok (.invokestatic idx, 3))
    (kk : X κ (sG (kE κ) (fB s a (va_cpy (s.2.2.2.1 a0) (s.2.2.2.1 a) s1 d1 m1))) u w (pc + 3) lv st) : X κ (sG (kE κ) s) u w pc lv (.int n :: .int dp :: .ref a :: .int sp :: .ref a0 :: st) := by
  subst hn0 hn1
  rw [← sG_fB (t := 4) h1] at kk
  exact x_copyq hκ hlink hnat hstat hini (sG_f (t := 4) h0) (sG_f (t := 4) h1) e1 e2 e3 e4 e5 e6 h4 h5 (fun i hi y hy => (hel i hi y hy).is) hd hrest dg kk
/-- an object is stored in an array of Object -/
theorem c_aastK (hκ : Ok κ cc own d) {a v : Nat} {x : Int32} (hK : s.1 a = 44) (hv : ObK s v) {n : Nat} (hn : s.2.2.2.2 a = n) (hx : vp_in x n) {z : Nat} (hz : x.toNatClampNeg = z) (dg : decode cc pc = .ok (.aastore, 1)) (kk : X κ (sG (kE κ) (fS s a z (some v))) u w (pc + 1) lv st) : X κ (sG (kE κ) s) u w pc lv (.ref v :: .int x :: .ref a :: st) := by
  obtain ⟨ci, C, T, N, ty, h1, h2, h3⟩ := hv
  exact c_aastO hκ hK h1 h2 h3 hn hx hz dg kk
theorem c_noE (hκ : Ok κ cc own d) (kk : s.1 ((kE κ).2 20) = 0 → X κ (sG (kE κ) s) u w pc lv st) : X κ (sG (kE κ) s) u w pc lv st := x_noE hκ (fun h => kk (sG_none h))
theorem c_getC (hκ : Ok κ cc own d) {idx a : Nat} (hlk : Cond.methodLink own idx ⟨"java/lang/Object", "getClass", "()Ljava/lang/Class;"⟩ ∈ lw_all) (hK : s.1 a = 44) (hd : 0 < d) (hrest : (st.map fun v => v.category).sum ≤ 8) (dg : decode cc pc = .ok (.invokevirtual idx, 3)) (kk : X κ (sG (kE κ) s) u w (pc + 3) lv (.ref ((kE κ).2 21) :: st)) : X κ (sG (kE κ) s) u w pc lv (.ref a :: st) := x_getC hκ hlk q1637 (sG_f (t := 4) hK) hd hrest dg kk
end CR6
theorem x_astoreN {κ : Kx} {G : gH} {u w pc d : Nat} {lv : List (Option Value)} {st : List Value} {cc : ByteArray} {own : String} (hκ : Ok κ cc own d) {n : Nat} (dg : decode cc pc = .ok (.astore n, 2)) (hn : n < kL κ) (ho : loOk lv n = true) (k : X κ G u w (pc + 2) (lv.set n (some .null)) st) : X κ G u w pc lv (.null :: st) := fun H locs ls i j hP hI hS hl hi hj => lv_astoreN hκ.1 hκ.2.1 dg hl hn rfl (fun ls' hl' => k H locs ls' i j hP hI hS (lo_st1 ho hl') hi hj)
