theorem wX8_263 : GoodIn lw_all (wsV RX8 263 RX8 yX8_acts (ws_ yX8_acts cX8_acts 6 none)) := lw_V q1475 q1477 qs54 q82 q1478
theorem aX8_acts : yX8_acts.cls = RX8 ∧ yX8_acts.cls ≠ "java/lang/invoke/MethodHandle" ∧ yX8_acts.cls ≠ "java/lang/invoke/VarHandle" ∧ (parseMethodDescriptor yX8_acts.desc).map (fun d => d.parameters.length) = some 4 := by decide +kernel
theorem wX8_269 : GoodIn lw_all (wsV RX8 269 RX8 yX8_files (ws_ yX8_files cX8_files 7 none)) := lw_V q1487 q1489 qs57 q82 q1490
theorem aX8_files : yX8_files.cls = RX8 ∧ yX8_files.cls ≠ "java/lang/invoke/MethodHandle" ∧ yX8_files.cls ≠ "java/lang/invoke/VarHandle" ∧ (parseMethodDescriptor yX8_files.desc).map (fun d => d.parameters.length) = some 2 := by decide +kernel
/-! the reference: comes -/
def doA (l b : Nat) (tr : Int32) : List Int32 → TS → TS
  | [], s => s
  | c :: t, s => if c = 10 then s else doA l b tr t (actsS s c l b tr)
/-- the rules' acts, one rule behind another (what holds leaves behind is any) -/
def RunS (τ : Int32 → Prop) (l b : Nat) (tr : Int32) : Rl → TS → TS → Prop
  | [], s, s' => s' = s
  | q :: R, s, s' => ∃ g : Nat → Int32, (hv τ q.1 → (if (10 : Int32) ∈ q.2 then s' = doA l b tr q.2 (tF (tS s 21 0) 20 g) else RunS τ l b tr R (doA l b tr q.2 (tF (tS s 21 0) 20 g)) s')) ∧ (¬ hv τ q.1 → RunS τ l b tr R (tF (tS s 21 0) 20 g) s')
def cmE (s : TS) (l : Nat) : TS := if 0 ≤ (s.1 53).toInt ∧ (s.2 26 l).toInt < 3 then toComeS s (Int32.toNatClampNeg (s.1 48)) (s.1 53) (s.2 26 l) 0 else s
def s4E (s : TS) (l : Nat) : TS := tS (tS (cmE s l) 37 (s.1 37 + if ¬ s.1 51 = 0 ∧ s.1 49 = 0 ∧ s.1 50 = 0 then 1 else 0)) 49 (s.1 49 ||| if s.1 51 = 0 ∧ s.1 49 = 0 ∧ s.1 50 = 0 then 1 else 0)
def comeE (s : TS) (l b : Nat) : TS := tA (flS (s4E s l) l b 4).1 34 (10210 * b + Int32.toNatClampNeg (s.2 31 l)) 1
theorem so_congr {σ s : TS} {l b n : Nat} (h1 : s.2 26 l = σ.2 26 l) (h2 : s.2 27 l = σ.2 27 l) (h3 : s.2 28 l = σ.2 28 l) (h4 : s.2 29 l = σ.2 29 l) (h5 : s.2 30 l = σ.2 30 l) (h6 : s.2 31 l = σ.2 31 l) (h7 : s.2 32 l = σ.2 32 l) (h8 : s.2 34 = σ.2 34) (h9 : s.2 57 = σ.2 57) (h10 : s.2 58 = σ.2 58) : so s l b n ↔ so σ l b n := by
  unfold so
  rw [h1, h2, h3, h4, h5, h6, h7, h8, h9, h10]
theorem CI.F20 {σ : TS} {n8 n l b : Nat} {tr : Int32} {s : TS} (h : CI σ n8 n l b tr s) (g : Nat → Int32) : CI σ n8 n l b tr (tF (tS s 21 0) 20 g) :=
  ⟨(h.1.S rfl 0).F rfl g, h.2⟩
theorem fl_31 {σ : TS} {l b t : Nat} {f : Int32} : (flT σ l b t f).1.2 31 = σ.2 31 := by
  unfold flT
  split <;> (try split) <;> (try split) <;> rfl
theorem flS_31 {σ : TS} {l b : Nat} : ∀ t, (flS σ l b t).1.2 31 = σ.2 31
  | 0 => rfl
  | t + 1 => by rw [flS, fl_31, flS_31 t]
theorem mX8_comes {E : gE} {θ : TA} (hθ : tOk θ) {σ : TS} {n8 n l b : Nat} {tr : Int32} {R : Rl} (h48 : σ.1 48 = nI n8) (h8 : n8 ≤ 61) (h25 : σ.1 25 = nI n) (hn : n ≤ 208) (hl : l < n) (hb : b < 3) (hR : RV σ b R) (hf : 0 ≤ (σ.2 26 l).toInt ∧ (σ.2 26 l).toInt ≤ 15) (hid : 0 ≤ (σ.2 31 l).toInt ∧ (σ.2 31 l).toInt ≤ 10209) (hrf : (σ.2 32 l).toInt ≤ 10209) (hhad : ∀ j : Nat, σ.2 34 j = 0 ∨ σ.2 34 j = 1) (hd : 1 ≤ (σ.2 8 b).toInt) (hT : ∀ k, k < 12 → 0 ≤ (σ.2 40 k).toInt ∧ (σ.2 40 k).toInt ≤ 290) : TMv E θ σ yX8_comes cX8_comes 9 3 [.int (nI l), .int (nI b), .int tr] (fun σ' => ∃ s : TS, RunS (so σ l b ∘ Int32.toNatClampNeg) l b tr R (in0 σ l b) s ∧ CI σ n8 n l b tr s ∧ σ' = comeE s l b) := by
  refine TMv.of (by decide) (Nat.le_of_ble_eq_true rfl) ?_
  rintro κ rfl hL hκ hr
  have e1 := hR.1
  have hl6 := hR.2.1
  have hfr := fr_le (x := tr) hb
  obtain ⟨fi1, fi2⟩ := ix_10210 hb hid
  -- the end
  have J155 : ∀ (s : TS) (o4 o5 o6 o7 o8 : Option Value), RunS (so σ l b ∘ Int32.toNatClampNeg) l b tr R (in0 σ l b) s → CI σ n8 n l b tr s → X κ (tG (kE κ) θ s) 0 0 155 [some (.ref θ.1), some (.int (nI l)), some (.int (nI b)), some (.int tr), o4, o5, o6, o7, o8] [] := by
    intro s o4 o5 o6 o7 o8 hrun hci
    obtain ⟨k8, e48, g1, g2, -, -⟩ := hci.2.1
    have hrow := hci.row hl
    have e40 : s.2 40 = σ.2 40 := (hci.1 40 rfl).2
    have e31 : s.2 31 l = σ.2 31 l := hrow.2.2.2.2.2.1
    have fin : ∀ s' : TS, s' = comeE s l b → X κ (tG (kE κ) θ s') 0 0 281 [some (.ref θ.1), some (.int (nI l)), some (.int (nI b)), some (.int tr), o4, o5, o6, o7, o8] [] := by
      intro s' hs'
      refine t_retv hκ hr dX8_comes_281 ?_
      exact ⟨s, hrun, hci, hs'⟩
    have J257 : ∀ s4 : TS, s4.2 31 = s.2 31 → s4.2 40 = s.2 40 → s4.1 52 = s.1 52 → tA (flS s4 l b 4).1 34 (10210 * b + Int32.toNatClampNeg (s.2 31 l)) 1 = comeE s l b → X κ (tG (kE κ) θ s4) 0 0 257 [some (.ref θ.1), some (.int (nI l)), some (.int (nI b)), some (.int tr), o4, o5, o6, o7, o8] [] := by
      intro s4 a31 a40 a52 hend
      have b31 : (flS s4 l b 4).1.2 31 l = σ.2 31 l := by rw [flS_31, a31, e31]
      refine x_aload_n hκ dX8_comes_257 rfl ?_
      refine x_iload_n hκ dX8_comes_258 rfl ?_
      refine x_iload_n hκ dX8_comes_259 rfl ?_
      refine t_callv hκ (mX8_files hθ (by omega) hb (by rw [a40, e40]; exact hT) (by rw [a52]; exact hci.2.2.2.2.1)) (by omega) (by decide) wX8_269 aX8_files rfl (Nat.le_of_ble_eq_true rfl) dX8_comes_260 (fun σ260 h260 => ?_)
      subst h260
      refine x_aload_n hκ dX8_comes_263 rfl ?_
      refine t_getA hκ fl8_34 (by decide) (by decide) rfl dX8_comes_264 ?_
      refine x_sipush (v := 10210) hκ dX8_comes_267 (by decide) ?_
      refine x_iload_n hκ dX8_comes_270 rfl ?_
      refine x_imulN hκ (by (try simp (disch := omega) only [tS_1, tS_2, tA_1, tA_2, tF_1, tF_2, xl_0, xl_1, xl_2, Nat.reduceEqDiff, ↓reduceIte, nI_add, nI_1, nm_2, nm_3, nm_4, nm_6, nm_7, nm_8, nm_12, nm_16, nm_24, nm_40, nm_180, nm_300, nm_10210, na_0, na_2, na_3, na_4, na_5, na_6, na_7, na_8, nm_p, nm_m, nI_clamp, b31, fi2]); exact rfl) dX8_comes_271 ?_
      refine x_aload_n hκ dX8_comes_272 rfl ?_
      refine t_getA hκ fl8_31 (by decide) (by decide) rfl dX8_comes_273 ?_
      refine x_iload_n hκ dX8_comes_276 rfl ?_
      refine t_iald (n := 210) hκ hθ (by decide) rfl rfl (by first | ((with_reducible refine vp_in_nI ?_ ?_) <;> omega) | exact i32_in (by omega) (by omega) | exact i32_in' (by simp only [Int32.toInt_add, Int32.toInt_mul, Int32.toInt_sub, Int32.reduceToInt, Int.bmod_add_bmod, Int.bmod_sub_bmod, Int.add_bmod_bmod, Int.sub_bmod_bmod, Int.bmod_mul_bmod, Int.mul_bmod_bmod]; exact i32_bm (by omega) (by omega)) (by omega) (by omega) | exact i32_in (by decide) (by decide)) (by (try simp (disch := omega) only [tS_1, tS_2, tA_1, tA_2, tF_1, tF_2, xl_0, xl_1, xl_2, Nat.reduceEqDiff, ↓reduceIte, nI_add, nI_1, nm_2, nm_3, nm_4, nm_6, nm_7, nm_8, nm_12, nm_16, nm_24, nm_40, nm_180, nm_300, nm_10210, na_0, na_2, na_3, na_4, na_5, na_6, na_7, na_8, nm_p, nm_m, nI_clamp, b31, fi2]); exact rfl) dX8_comes_277 ?_
      refine x_iaddN hκ (by (try simp (disch := omega) only [tS_1, tS_2, tA_1, tA_2, tF_1, tF_2, xl_0, xl_1, xl_2, Nat.reduceEqDiff, ↓reduceIte, nI_add, nI_1, nm_2, nm_3, nm_4, nm_6, nm_7, nm_8, nm_12, nm_16, nm_24, nm_40, nm_180, nm_300, nm_10210, na_0, na_2, na_3, na_4, na_5, na_6, na_7, na_8, nm_p, nm_m, nI_clamp, b31, fi2]); exact rfl) dX8_comes_278 ?_
      refine x_iconst (v := 1) hκ dX8_comes_279 (by decide) ?_
      refine t_zast (n := 30630) hκ hθ (by decide) rfl rfl (i32_in (by rw [fi1]; omega) (by rw [fi1]; omega)) (by (try simp (disch := omega) only [tS_1, tS_2, tA_1, tA_2, tF_1, tF_2, xl_0, xl_1, xl_2, Nat.reduceEqDiff, ↓reduceIte, nI_add, nI_1, nm_2, nm_3, nm_4, nm_6, nm_7, nm_8, nm_12, nm_16, nm_24, nm_40, nm_180, nm_300, nm_10210, na_0, na_2, na_3, na_4, na_5, na_6, na_7, na_8, nm_p, nm_m, nI_clamp, b31, fi2]); exact rfl) (by first | exact Or.inl rfl | exact Or.inr rfl | assumption) dX8_comes_280 ?_
      refine fin _ ?_
      rw [← hend, e31]
    have J222 : ∀ s3 : TS, s3.2 31 = s.2 31 → s3.2 40 = s.2 40 → s3.1 49 = s.1 49 → s3.1 50 = s.1 50 → s3.1 51 = s.1 51 → s3.1 52 = s.1 52 → tA (flS (tS s3 49 (s.1 49 ||| if s.1 51 = 0 ∧ s.1 49 = 0 ∧ s.1 50 = 0 then 1 else 0)) l b 4).1 34 (10210 * b + Int32.toNatClampNeg (s.2 31 l)) 1 = comeE s l b → X κ (tG (kE κ) θ s3) 0 0 222 [some (.ref θ.1), some (.int (nI l)), some (.int (nI b)), some (.int tr), o4, o5, o6, o7, o8] [] := by
      intro s3 a31 a40 a49 a50 a51 a52 hend
      refine x_aload_n hκ dX8_comes_222 rfl ?_
      refine x_dup hκ dX8_comes_223 rfl ?_
      refine t_get hκ fl8_49 (by decide) (by decide) rfl (by (try simp (disch := omega) only [tS_1, tS_2, tA_1, tA_2, tF_1, tF_2, xl_0, xl_1, xl_2, Nat.reduceEqDiff, ↓reduceIte, nI_add, nI_1, nm_2, nm_3, nm_4, nm_6, nm_7, nm_8, nm_12, nm_16, nm_24, nm_40, nm_180, nm_300, nm_10210, na_0, na_2, na_3, na_4, na_5, na_6, na_7, na_8, nm_p, nm_m, nI_clamp, a49, a50, a51]); exact rfl) dX8_comes_224 ?_
      refine x_aload_n hκ dX8_comes_227 rfl ?_
      refine t_get hκ fl8_51 (by decide) (by decide) rfl (by (try simp (disch := omega) only [tS_1, tS_2, tA_1, tA_2, tF_1, tF_2, xl_0, xl_1, xl_2, Nat.reduceEqDiff, ↓reduceIte, nI_add, nI_1, nm_2, nm_3, nm_4, nm_6, nm_7, nm_8, nm_12, nm_16, nm_24, nm_40, nm_180, nm_300, nm_10210, na_0, na_2, na_3, na_4, na_5, na_6, na_7, na_8, nm_p, nm_m, nI_clamp, a49, a50, a51]); exact rfl) dX8_comes_228 ?_
      refine x_if_ne (tgt := 252) hκ dX8_comes_231 (by decide) (fun c231 => ?_) (fun c231 => ?_)
      · -- X8_comes 231T
        have i231 := c231
        simp (disch := omega) only [i32_lt, i32_le, i32_eq, Int32.reduceToInt, nI_toInt] at i231
        refine x_iconst (v := 0) hκ dX8_comes_252 (by decide) ?_
        refine x_ior hκ dX8_comes_253 ?_
        refine t_put hκ fl8_49 (by decide) (by decide) rfl rfl rfl dX8_comes_254 ?_
        rw [if_neg (fun z => c231 z.1)] at hend
        exact J257 _ a31 a40 a52 hend
      · -- X8_comes 231F
        have i231 := c231
        simp (disch := omega) only [i32_lt, i32_le, i32_eq, Int32.reduceToInt, nI_toInt] at i231
        refine x_aload_n hκ dX8_comes_234 rfl ?_
        refine t_get hκ fl8_49 (by decide) (by decide) rfl (by (try simp (disch := omega) only [tS_1, tS_2, tA_1, tA_2, tF_1, tF_2, xl_0, xl_1, xl_2, Nat.reduceEqDiff, ↓reduceIte, nI_add, nI_1, nm_2, nm_3, nm_4, nm_6, nm_7, nm_8, nm_12, nm_16, nm_24, nm_40, nm_180, nm_300, nm_10210, na_0, na_2, na_3, na_4, na_5, na_6, na_7, na_8, nm_p, nm_m, nI_clamp, a49, a50, a51]); exact rfl) dX8_comes_235 ?_
        refine x_if_ne (tgt := 252) hκ dX8_comes_238 (by decide) (fun c238 => ?_) (fun c238 => ?_)
        · -- X8_comes 238T
          have i238 := c238
          simp (disch := omega) only [i32_lt, i32_le, i32_eq, Int32.reduceToInt, nI_toInt] at i238
          refine x_iconst (v := 0) hκ dX8_comes_252 (by decide) ?_
          refine x_ior hκ dX8_comes_253 ?_
          refine t_put hκ fl8_49 (by decide) (by decide) rfl rfl rfl dX8_comes_254 ?_
          rw [if_neg (fun z => c238 z.2.1)] at hend
          exact J257 _ a31 a40 a52 hend
        · -- X8_comes 238F
          have i238 := c238
          simp (disch := omega) only [i32_lt, i32_le, i32_eq, Int32.reduceToInt, nI_toInt] at i238
          refine x_aload_n hκ dX8_comes_241 rfl ?_
          refine t_get hκ fl8_50 (by decide) (by decide) rfl (by (try simp (disch := omega) only [tS_1, tS_2, tA_1, tA_2, tF_1, tF_2, xl_0, xl_1, xl_2, Nat.reduceEqDiff, ↓reduceIte, nI_add, nI_1, nm_2, nm_3, nm_4, nm_6, nm_7, nm_8, nm_12, nm_16, nm_24, nm_40, nm_180, nm_300, nm_10210, na_0, na_2, na_3, na_4, na_5, na_6, na_7, na_8, nm_p, nm_m, nI_clamp, a49, a50, a51]); exact rfl) dX8_comes_242 ?_
          refine x_if_ne (tgt := 252) hκ dX8_comes_245 (by decide) (fun c245 => ?_) (fun c245 => ?_)
          · -- X8_comes 245T
            have i245 := c245
            simp (disch := omega) only [i32_lt, i32_le, i32_eq, Int32.reduceToInt, nI_toInt] at i245
            refine x_iconst (v := 0) hκ dX8_comes_252 (by decide) ?_
            refine x_ior hκ dX8_comes_253 ?_
            refine t_put hκ fl8_49 (by decide) (by decide) rfl rfl rfl dX8_comes_254 ?_
            rw [if_neg (fun z => c245 z.2.2)] at hend
            exact J257 _ a31 a40 a52 hend
          · -- X8_comes 245F
            have i245 := c245
            simp (disch := omega) only [i32_lt, i32_le, i32_eq, Int32.reduceToInt, nI_toInt] at i245
            refine x_iconst (v := 1) hκ dX8_comes_248 (by decide) ?_
            refine x_goto (tgt := 253) hκ dX8_comes_249 (by decide) ?_
            refine x_ior hκ dX8_comes_253 ?_
            refine t_put hκ fl8_49 (by decide) (by decide) rfl rfl rfl dX8_comes_254 ?_
            rw [if_pos ⟨c231, c238, c245⟩] at hend
            exact J257 _ a31 a40 a52 hend
    have J187 : ∀ s2 : TS, s2.2 31 = s.2 31 → s2.2 40 = s.2 40 → s2.1 37 = s.1 37 → s2.1 49 = s.1 49 → s2.1 50 = s.1 50 → s2.1 51 = s.1 51 → s2.1 52 = s.1 52 → tA (flS (tS (tS s2 37 (s.1 37 + if ¬ s.1 51 = 0 ∧ s.1 49 = 0 ∧ s.1 50 = 0 then 1 else 0)) 49 (s.1 49 ||| if s.1 51 = 0 ∧ s.1 49 = 0 ∧ s.1 50 = 0 then 1 else 0)) l b 4).1 34 (10210 * b + Int32.toNatClampNeg (s.2 31 l)) 1 = comeE s l b → X κ (tG (kE κ) θ s2) 0 0 187 [some (.ref θ.1), some (.int (nI l)), some (.int (nI b)), some (.int tr), o4, o5, o6, o7, o8] [] := by
      intro s2 a31 a40 a37 a49 a50 a51 a52 hend
      refine x_aload_n hκ dX8_comes_187 rfl ?_
      refine x_dup hκ dX8_comes_188 rfl ?_
      refine t_get hκ fl8_37 (by decide) (by decide) rfl (by (try simp (disch := omega) only [tS_1, tS_2, tA_1, tA_2, tF_1, tF_2, xl_0, xl_1, xl_2, Nat.reduceEqDiff, ↓reduceIte, nI_add, nI_1, nm_2, nm_3, nm_4, nm_6, nm_7, nm_8, nm_12, nm_16, nm_24, nm_40, nm_180, nm_300, nm_10210, na_0, na_2, na_3, na_4, na_5, na_6, na_7, na_8, nm_p, nm_m, nI_clamp, a49, a50, a51, a37]); exact rfl) dX8_comes_189 ?_
      refine x_aload_n hκ dX8_comes_192 rfl ?_
      refine t_get hκ fl8_51 (by decide) (by decide) rfl (by (try simp (disch := omega) only [tS_1, tS_2, tA_1, tA_2, tF_1, tF_2, xl_0, xl_1, xl_2, Nat.reduceEqDiff, ↓reduceIte, nI_add, nI_1, nm_2, nm_3, nm_4, nm_6, nm_7, nm_8, nm_12, nm_16, nm_24, nm_40, nm_180, nm_300, nm_10210, na_0, na_2, na_3, na_4, na_5, na_6, na_7, na_8, nm_p, nm_m, nI_clamp, a49, a50, a51, a37]); exact rfl) dX8_comes_193 ?_
      refine x_if_eq (tgt := 217) hκ dX8_comes_196 (by decide) (fun c196 => ?_) (fun c196 => ?_)
      · -- X8_comes 196T
        have i196 := c196
        simp (disch := omega) only [i32_lt, i32_le, i32_eq, Int32.reduceToInt, nI_toInt] at i196
        refine x_iconst (v := 0) hκ dX8_comes_217 (by decide) ?_
        refine x_iaddN hκ (by (try simp (disch := omega) only [tS_1, tS_2, tA_1, tA_2, tF_1, tF_2, xl_0, xl_1, xl_2, Nat.reduceEqDiff, ↓reduceIte, nI_add, nI_1, nm_2, nm_3, nm_4, nm_6, nm_7, nm_8, nm_12, nm_16, nm_24, nm_40, nm_180, nm_300, nm_10210, na_0, na_2, na_3, na_4, na_5, na_6, na_7, na_8, nm_p, nm_m, nI_clamp, a49, a50, a51, a37]); exact rfl) dX8_comes_218 ?_
        refine t_put hκ fl8_37 (by decide) (by decide) rfl rfl rfl dX8_comes_219 ?_
        rw [if_neg (fun z => z.1 c196)] at hend
        exact J222 _ a31 a40 a49 a50 a51 a52 hend
      · -- X8_comes 196F
        have i196 := c196
        simp (disch := omega) only [i32_lt, i32_le, i32_eq, Int32.reduceToInt, nI_toInt] at i196
        refine x_aload_n hκ dX8_comes_199 rfl ?_
        refine t_get hκ fl8_49 (by decide) (by decide) rfl (by (try simp (disch := omega) only [tS_1, tS_2, tA_1, tA_2, tF_1, tF_2, xl_0, xl_1, xl_2, Nat.reduceEqDiff, ↓reduceIte, nI_add, nI_1, nm_2, nm_3, nm_4, nm_6, nm_7, nm_8, nm_12, nm_16, nm_24, nm_40, nm_180, nm_300, nm_10210, na_0, na_2, na_3, na_4, na_5, na_6, na_7, na_8, nm_p, nm_m, nI_clamp, a49, a50, a51, a37]); exact rfl) dX8_comes_200 ?_
        refine x_if_ne (tgt := 217) hκ dX8_comes_203 (by decide) (fun c203 => ?_) (fun c203 => ?_)
        · -- X8_comes 203T
          have i203 := c203
          simp (disch := omega) only [i32_lt, i32_le, i32_eq, Int32.reduceToInt, nI_toInt] at i203
          refine x_iconst (v := 0) hκ dX8_comes_217 (by decide) ?_
          refine x_iaddN hκ (by (try simp (disch := omega) only [tS_1, tS_2, tA_1, tA_2, tF_1, tF_2, xl_0, xl_1, xl_2, Nat.reduceEqDiff, ↓reduceIte, nI_add, nI_1, nm_2, nm_3, nm_4, nm_6, nm_7, nm_8, nm_12, nm_16, nm_24, nm_40, nm_180, nm_300, nm_10210, na_0, na_2, na_3, na_4, na_5, na_6, na_7, na_8, nm_p, nm_m, nI_clamp, a49, a50, a51, a37]); exact rfl) dX8_comes_218 ?_
          refine t_put hκ fl8_37 (by decide) (by decide) rfl rfl rfl dX8_comes_219 ?_
          rw [if_neg (fun z => c203 z.2.1)] at hend
          exact J222 _ a31 a40 a49 a50 a51 a52 hend
        · -- X8_comes 203F
          have i203 := c203
          simp (disch := omega) only [i32_lt, i32_le, i32_eq, Int32.reduceToInt, nI_toInt] at i203
          refine x_aload_n hκ dX8_comes_206 rfl ?_
          refine t_get hκ fl8_50 (by decide) (by decide) rfl (by (try simp (disch := omega) only [tS_1, tS_2, tA_1, tA_2, tF_1, tF_2, xl_0, xl_1, xl_2, Nat.reduceEqDiff, ↓reduceIte, nI_add, nI_1, nm_2, nm_3, nm_4, nm_6, nm_7, nm_8, nm_12, nm_16, nm_24, nm_40, nm_180, nm_300, nm_10210, na_0, na_2, na_3, na_4, na_5, na_6, na_7, na_8, nm_p, nm_m, nI_clamp, a49, a50, a51, a37]); exact rfl) dX8_comes_207 ?_
          refine x_if_ne (tgt := 217) hκ dX8_comes_210 (by decide) (fun c210 => ?_) (fun c210 => ?_)
          · -- X8_comes 210T
            have i210 := c210
            simp (disch := omega) only [i32_lt, i32_le, i32_eq, Int32.reduceToInt, nI_toInt] at i210
            refine x_iconst (v := 0) hκ dX8_comes_217 (by decide) ?_
            refine x_iaddN hκ (by (try simp (disch := omega) only [tS_1, tS_2, tA_1, tA_2, tF_1, tF_2, xl_0, xl_1, xl_2, Nat.reduceEqDiff, ↓reduceIte, nI_add, nI_1, nm_2, nm_3, nm_4, nm_6, nm_7, nm_8, nm_12, nm_16, nm_24, nm_40, nm_180, nm_300, nm_10210, na_0, na_2, na_3, na_4, na_5, na_6, na_7, na_8, nm_p, nm_m, nI_clamp, a49, a50, a51, a37]); exact rfl) dX8_comes_218 ?_
            refine t_put hκ fl8_37 (by decide) (by decide) rfl rfl rfl dX8_comes_219 ?_
            rw [if_neg (fun z => c210 z.2.2)] at hend
            exact J222 _ a31 a40 a49 a50 a51 a52 hend
          · -- X8_comes 210F
            have i210 := c210
            simp (disch := omega) only [i32_lt, i32_le, i32_eq, Int32.reduceToInt, nI_toInt] at i210
            refine x_iconst (v := 1) hκ dX8_comes_213 (by decide) ?_
            refine x_goto (tgt := 218) hκ dX8_comes_214 (by decide) ?_
            refine x_iaddN hκ (by (try simp (disch := omega) only [tS_1, tS_2, tA_1, tA_2, tF_1, tF_2, xl_0, xl_1, xl_2, Nat.reduceEqDiff, ↓reduceIte, nI_add, nI_1, nm_2, nm_3, nm_4, nm_6, nm_7, nm_8, nm_12, nm_16, nm_24, nm_40, nm_180, nm_300, nm_10210, na_0, na_2, na_3, na_4, na_5, na_6, na_7, na_8, nm_p, nm_m, nI_clamp, a49, a50, a51, a37]); exact rfl) dX8_comes_218 ?_
            refine t_put hκ fl8_37 (by decide) (by decide) rfl rfl rfl dX8_comes_219 ?_
            rw [if_pos ⟨c196, c203, c210⟩] at hend
            exact J222 _ a31 a40 a49 a50 a51 a52 hend
    have e8 : Int32.toNatClampNeg (s.1 48) = k8 := by rw [e48]; exact nI_clamp (by omega)
    refine x_aload_n hκ dX8_comes_155 rfl ?_
    refine t_get hκ fl8_53 (by decide) (by decide) rfl (by (try simp (disch := omega) only [tS_1, tS_2, tA_1, tA_2, tF_1, tF_2, xl_0, xl_1, xl_2, Nat.reduceEqDiff, ↓reduceIte, nI_add, nI_1, nm_2, nm_3, nm_4, nm_6, nm_7, nm_8, nm_12, nm_16, nm_24, nm_40, nm_180, nm_300, nm_10210, na_0, na_2, na_3, na_4, na_5, na_6, na_7, na_8, nm_p, nm_m, nI_clamp]); exact rfl) dX8_comes_156 ?_
    refine x_if_lt (tgt := 187) hκ dX8_comes_159 (by decide) (fun c159 => ?_) (fun c159 => ?_)
    · -- X8_comes 159T
      have i159 := c159
      simp (disch := omega) only [i32_lt, i32_le, i32_eq, Int32.reduceToInt, nI_toInt] at i159
      refine J187 s rfl rfl rfl rfl rfl rfl rfl ?_
      have hc : cmE s l = s := if_neg (fun z => by have := z.1; omega)
      unfold comeE s4E
      rw [hc]
    · -- X8_comes 159F
      have i159 := c159
      simp (disch := omega) only [i32_lt, i32_le, i32_eq, Int32.reduceToInt, nI_toInt] at i159
      refine x_aload_n hκ dX8_comes_162 rfl ?_
      refine t_getA hκ fl8_26 (by decide) (by decide) rfl dX8_comes_163 ?_
      refine x_iload_n hκ dX8_comes_166 rfl ?_
      refine t_iald (n := 210) hκ hθ (by decide) rfl rfl (by first | ((with_reducible refine vp_in_nI ?_ ?_) <;> omega) | exact i32_in (by omega) (by omega) | exact i32_in' (by simp only [Int32.toInt_add, Int32.toInt_mul, Int32.toInt_sub, Int32.reduceToInt, Int.bmod_add_bmod, Int.bmod_sub_bmod, Int.add_bmod_bmod, Int.sub_bmod_bmod, Int.bmod_mul_bmod, Int.mul_bmod_bmod]; exact i32_bm (by omega) (by omega)) (by omega) (by omega) | exact i32_in (by decide) (by decide)) (by (try simp (disch := omega) only [tS_1, tS_2, tA_1, tA_2, tF_1, tF_2, xl_0, xl_1, xl_2, Nat.reduceEqDiff, ↓reduceIte, nI_add, nI_1, nm_2, nm_3, nm_4, nm_6, nm_7, nm_8, nm_12, nm_16, nm_24, nm_40, nm_180, nm_300, nm_10210, na_0, na_2, na_3, na_4, na_5, na_6, na_7, na_8, nm_p, nm_m, nI_clamp]); exact rfl) dX8_comes_167 ?_
      refine x_iconst (v := 3) hκ dX8_comes_168 (by decide) ?_
      refine x_icmp_ge (tgt := 187) hκ dX8_comes_169 (by decide) (fun c169 => ?_) (fun c169 => ?_)
      · -- X8_comes 169T
        have i169 := c169
        simp (disch := omega) only [i32_lt, i32_le, i32_eq, Int32.reduceToInt, nI_toInt] at i169
        refine J187 s rfl rfl rfl rfl rfl rfl rfl ?_
        have hc : cmE s l = s := if_neg (fun z => by have := z.2; omega)
        unfold comeE s4E
        rw [hc]
      · -- X8_comes 169F
        have i169 := c169
        simp (disch := omega) only [i32_lt, i32_le, i32_eq, Int32.reduceToInt, nI_toInt] at i169
        refine x_aload_n hκ dX8_comes_172 rfl ?_
        refine x_aload_n hκ dX8_comes_173 rfl ?_
        refine t_get hκ fl8_53 (by decide) (by decide) rfl (by (try simp (disch := omega) only [tS_1, tS_2, tA_1, tA_2, tF_1, tF_2, xl_0, xl_1, xl_2, Nat.reduceEqDiff, ↓reduceIte, nI_add, nI_1, nm_2, nm_3, nm_4, nm_6, nm_7, nm_8, nm_12, nm_16, nm_24, nm_40, nm_180, nm_300, nm_10210, na_0, na_2, na_3, na_4, na_5, na_6, na_7, na_8, nm_p, nm_m, nI_clamp]); exact rfl) dX8_comes_174 ?_
        refine x_aload_n hκ dX8_comes_177 rfl ?_
        refine t_getA hκ fl8_26 (by decide) (by decide) rfl dX8_comes_178 ?_
        refine x_iload_n hκ dX8_comes_181 rfl ?_
        refine t_iald (n := 210) hκ hθ (by decide) rfl rfl (by first | ((with_reducible refine vp_in_nI ?_ ?_) <;> omega) | exact i32_in (by omega) (by omega) | exact i32_in' (by simp only [Int32.toInt_add, Int32.toInt_mul, Int32.toInt_sub, Int32.reduceToInt, Int.bmod_add_bmod, Int.bmod_sub_bmod, Int.add_bmod_bmod, Int.sub_bmod_bmod, Int.bmod_mul_bmod, Int.mul_bmod_bmod]; exact i32_bm (by omega) (by omega)) (by omega) (by omega) | exact i32_in (by decide) (by decide)) (by (try simp (disch := omega) only [tS_1, tS_2, tA_1, tA_2, tF_1, tF_2, xl_0, xl_1, xl_2, Nat.reduceEqDiff, ↓reduceIte, nI_add, nI_1, nm_2, nm_3, nm_4, nm_6, nm_7, nm_8, nm_12, nm_16, nm_24, nm_40, nm_180, nm_300, nm_10210, na_0, na_2, na_3, na_4, na_5, na_6, na_7, na_8, nm_p, nm_m, nI_clamp]); exact rfl) dX8_comes_182 ?_
        refine x_iconst (v := 0) hκ dX8_comes_183 (by decide) ?_
        refine t_callv hκ (mX8_toCome hθ (n := k8) e48 (by omega)) (by omega) (by decide) wX8_243 aX8_toCome rfl (Nat.le_of_ble_eq_true rfl) dX8_comes_184 (fun σ184 h184 => ?_)
        subst h184
        refine J187 _ rfl rfl rfl rfl rfl rfl rfl ?_
        have hc : cmE s l = toComeS s (Int32.toNatClampNeg (s.1 48)) (s.1 53) (s.2 26 l) 0 := if_pos ⟨by omega, by omega⟩
        unfold comeE s4E
        rw [hc, e8]
  -- the rules
  have outer : ∀ (m r : Nat) (s : TS) (z : Int32) (o6 o7 o8 : Option Value), loOk [some (.ref θ.1), some (.int (nI l)), some (.int (nI b)), some (.int tr), some (.int z), some (.int (nI r)), o6, o7, o8] 7 = true → loOk [some (.ref θ.1), some (.int (nI l)), some (.int (nI b)), some (.int tr), some (.int z), some (.int (nI r)), o6, o7, o8] 8 = true → r ≤ R.length → R.length - r < m → CI σ n8 n l b tr s → ((z = 0 ∧ ∀ y, RunS (so σ l b ∘ Int32.toNatClampNeg) l b tr (R.drop r) s y → RunS (so σ l b ∘ Int32.toNatClampNeg) l b tr R (in0 σ l b) y) ∨ (¬ z = 0 ∧ RunS (so σ l b ∘ Int32.toNatClampNeg) l b tr R (in0 σ l b) s)) → X κ (tG (kE κ) θ s) 0 0 41 [some (.ref θ.1), some (.int (nI l)), some (.int (nI b)), some (.int tr), some (.int z), some (.int (nI r)), o6, o7, o8] [] := by
    intro m
    induction m with
    | zero => intro r s z o6 o7 o8 _ _ h1 h2; exact absurd h2 (Nat.not_lt_zero _)
    | succ m ih =>
      intro r s z o6 o7 o8 hlo7 hlo8 hrl hm hci hz
      have e2 : s.2 2 b = nI R.length := by rw [(hci.1 2 rfl).2]; exact e1
      refine x_iload hκ dX8_comes_41 rfl ?_
      refine x_aload_n hκ dX8_comes_43 rfl ?_
      refine t_getA hκ fl8_2 (by decide) (by decide) rfl dX8_comes_44 ?_
      refine x_iload_n hκ dX8_comes_47 rfl ?_
      refine t_iald (n := 3) hκ hθ (by decide) rfl rfl (by first | ((with_reducible refine vp_in_nI ?_ ?_) <;> omega) | exact i32_in (by omega) (by omega) | exact i32_in' (by simp only [Int32.toInt_add, Int32.toInt_mul, Int32.toInt_sub, Int32.reduceToInt, Int.bmod_add_bmod, Int.bmod_sub_bmod, Int.add_bmod_bmod, Int.sub_bmod_bmod, Int.bmod_mul_bmod, Int.mul_bmod_bmod]; exact i32_bm (by omega) (by omega)) (by omega) (by omega) | exact i32_in (by decide) (by decide)) (by (try simp (disch := omega) only [tS_1, tS_2, tA_1, tA_2, tF_1, tF_2, xl_0, xl_1, xl_2, Nat.reduceEqDiff, ↓reduceIte, nI_add, nI_1, nm_2, nm_3, nm_4, nm_6, nm_7, nm_8, nm_12, nm_16, nm_24, nm_40, nm_180, nm_300, nm_10210, na_0, na_2, na_3, na_4, na_5, na_6, na_7, na_8, nm_p, nm_m, nI_clamp, e2]); exact rfl) dX8_comes_48 ?_
      refine x_icmp_ge (tgt := 155) hκ dX8_comes_49 (by decide) (fun c49 => ?_) (fun c49 => ?_)
      · -- X8_comes 49T
        have i49 := c49
        simp (disch := omega) only [i32_lt, i32_le, i32_eq, Int32.reduceToInt, nI_toInt] at i49
        obtain rfl : r = R.length := by omega
        rcases hz with z1 | z1
        · exact J155 s _ _ _ _ _ (z1.2 s (by rw [List.drop_length]; rfl)) hci
        · exact J155 s _ _ _ _ _ z1.2 hci
      · -- X8_comes 49F
        have i49 := c49
        simp (disch := omega) only [i32_lt, i32_le, i32_eq, Int32.reduceToInt, nI_toInt] at i49
        refine x_iload hκ dX8_comes_52 rfl ?_
        refine x_if_ne (tgt := 155) hκ dX8_comes_54 (by decide) (fun c54 => ?_) (fun c54 => ?_)
        · -- X8_comes 54T
          have i54 := c54
          simp (disch := omega) only [i32_lt, i32_le, i32_eq, Int32.reduceToInt, nI_toInt] at i54
          rcases hz with z1 | z1
          · exact absurd z1.1 c54
          · exact J155 s _ _ _ _ _ z1.2 hci
        · -- X8_comes 54F
          have i54 := c54
          simp (disch := omega) only [i32_lt, i32_le, i32_eq, Int32.reduceToInt, nI_toInt] at i54
          have hr6 : r < R.length := by omega
          have hq : R[r]? = some R[r] := List.getElem?_eq_getElem hr6
          have hz : ∀ y, RunS (so σ l b ∘ Int32.toNatClampNeg) l b tr (R.drop r) s y → RunS (so σ l b ∘ Int32.toNatClampNeg) l b tr R (in0 σ l b) y := by rcases hz with z1 | z1; exact z1.2; exact absurd c54 z1.1
          rw [List.drop_eq_getElem_cons hr6] at hz
          have hrow := hci.row hl
          have hRs : RV (tS s 21 0) b R := by
            have hFr := hci.1
            unfold RV
            rw [show (tS s 21 0).2 = s.2 from rfl, (hFr 2 rfl).2, (hFr 3 rfl).2, (hFr 4 rfl).2, (hFr 5 rfl).2, (hFr 6 rfl).2]
            exact hR
          have hSo : SoOk (tS s 21 0) l b := ⟨hci.2.2.2.2.2.1, by omega, hci.2.2.2.2.2.2, hb, by rw [show (tS s 21 0).2 = s.2 from rfl, hrow.2.2.2.2.2.1]; exact hid, by rw [show (tS s 21 0).2 = s.2 from rfl, hrow.2.2.2.2.2.2.1]; exact hrf, by rw [show (tS s 21 0).2 = s.2 from rfl, (hci.1 34 rfl).2]; exact hhad⟩
          have hTl : Tells (tS s 21 0) (so σ l b ∘ Int32.toNatClampNeg) := Or.inr ⟨rfl, l, b, hSo, fun nn hnn => by
            show so σ l b (Int32.toNatClampNeg (nI nn)) ↔ _
            rw [show Int32.toNatClampNeg (nI nn) = nn from nI_clamp (by omega)]
            exact (so_congr (s := tS s 21 0) hrow.1 hrow.2.1 hrow.2.2.1 hrow.2.2.2.1 hrow.2.2.2.2.1 hrow.2.2.2.2.2.1 hrow.2.2.2.2.2.2.1 (hci.1 34 rfl).2 (hci.1 57 rfl).2 (hci.1 58 rfl).2).symm⟩
          refine x_aload_n hκ dX8_comes_57 rfl ?_
          refine x_iconst (v := 0) hκ dX8_comes_58 (by decide) ?_
          refine t_putZ hκ fl8_21 (by decide) (by decide) rfl rfl rfl (by first | exact Or.inl rfl | exact Or.inr rfl | assumption) dX8_comes_59 ?_
          refine x_aload_n hκ dX8_comes_62 rfl ?_
          refine x_iload_n hκ dX8_comes_63 rfl ?_
          refine x_iload hκ dX8_comes_64 rfl ?_
          refine t_calli hκ (mX8_holds hθ hb hRs hq hTl) (by omega) (by decide) wX8_260 aX8_holds rfl (Nat.le_of_ble_eq_true rfl) dX8_comes_66 (fun r66 σ66 h66 => ?_)
          obtain ⟨h66, g, rfl⟩ := h66
          refine x_istore hκ dX8_comes_69 (by rw [hL]; decide) rfl ?_
          refine x_iconst (v := 0) hκ dX8_comes_71 (by decide) ?_
          refine x_istore hκ dX8_comes_72 (by rw [hL]; decide) rfl ?_
          obtain ⟨hA5, eA6, hA7, hA8⟩ := hR.2.2.2.2 r _ hq
          have h4 := hA8.2.2.1
          have hci1 := hci.F20 g
          have inner : ∀ (f i : Nat) (s' : TS) (z4 : Int32) (o8 : Option Value), i ≤ R[r].2.length → R[r].2.length - i < f → CI σ n8 n l b tr s' → (hv (so σ l b ∘ Int32.toNatClampNeg) R[r].1 → ((z4 = 0 ∧ doA l b tr (R[r].2.drop i) s' = doA l b tr R[r].2 (tF (tS s 21 0) 20 g) ∧ (10 ∉ R[r].2.take i)) ∨ (¬ z4 = 0 ∧ s' = doA l b tr R[r].2 (tF (tS s 21 0) 20 g) ∧ 10 ∈ R[r].2))) → (¬ hv (so σ l b ∘ Int32.toNatClampNeg) R[r].1 → i = 0 ∧ z4 = 0 ∧ s' = tF (tS s 21 0) 20 g) → X κ (tG (kE κ) θ s') 0 0 74 [some (.ref θ.1), some (.int (nI l)), some (.int (nI b)), some (.int tr), some (.int z4), some (.int (nI r)), some (.int r66), some (.int (nI i)), o8] [] := by
            intro f
            induction f with
            | zero => intro i s' z4 o8 h1 h2; exact absurd h2 (Nat.not_lt_zero _)
            | succ f ih2 =>
              intro i s' z4 o8 hi hf2 hci2 hyes hno
              have e6 : s'.2 6 (6 * b + r) = nI R[r].2.length := by rw [(hci2.1 6 rfl).2]; exact eA6
              have e5 : s'.2 5 = σ.2 5 := (hci2.1 5 rfl).2
              obtain ⟨k8, e48, g1, g2, -, -⟩ := hci2.2.1
              have hrow2 := hci2.row hl
              have e25 : ∃ nn : Nat, s'.1 25 = nI nn ∧ nn < 210 := by
                rcases hci2.2.2.1 with w | w
                · exact ⟨n, w.1, by omega⟩
                · exact ⟨n + 1, w.1, by omega⟩
              obtain ⟨nn, en, hnn⟩ := e25
              have next : 10 ∈ R[r].2 → hv (so σ l b ∘ Int32.toNatClampNeg) R[r].1 → s' = doA l b tr R[r].2 (tF (tS s 21 0) 20 g) → ¬ z4 = 0 → X κ (tG (kE κ) θ s') 0 0 149 [some (.ref θ.1), some (.int (nI l)), some (.int (nI b)), some (.int tr), some (.int z4), some (.int (nI r)), some (.int r66), some (.int (nI i)), o8] [] := by
                intro hst hh he hz4
                refine x_iincN (y := 1) hκ dX8_comes_149 (by decide) rfl (by rw [hL]; decide) rfl (by (try simp (disch := omega) only [tS_1, tS_2, tA_1, tA_2, tF_1, tF_2, xl_0, xl_1, xl_2, Nat.reduceEqDiff, ↓reduceIte, nI_add, nI_1, nm_2, nm_3, nm_4, nm_6, nm_7, nm_8, nm_12, nm_16, nm_24, nm_40, nm_180, nm_300, nm_10210, na_0, na_2, na_3, na_4, na_5, na_6, na_7, na_8, nm_p, nm_m, nI_clamp]); exact rfl) ?_
                refine x_goto (tgt := 41) hκ dX8_comes_152 (by decide) ?_
                exact ih (r + 1) s' z4 _ _ _ rfl rfl (by omega) (by omega) hci2 (Or.inr ⟨hz4, hz s' ⟨g, fun _ => by rw [if_pos hst]; exact he, fun w => absurd hh w⟩⟩)
              refine x_iload hκ dX8_comes_74 rfl ?_
              refine x_aload_n hκ dX8_comes_76 rfl ?_
              refine t_getA hκ fl8_6 (by decide) (by decide) rfl dX8_comes_77 ?_
              refine x_bipush (v := 6) hκ dX8_comes_80 (by decide) ?_
              refine x_iload_n hκ dX8_comes_82 rfl ?_
              refine x_imulN hκ (by (try simp (disch := omega) only [tS_1, tS_2, tA_1, tA_2, tF_1, tF_2, xl_0, xl_1, xl_2, Nat.reduceEqDiff, ↓reduceIte, nI_add, nI_1, nm_2, nm_3, nm_4, nm_6, nm_7, nm_8, nm_12, nm_16, nm_24, nm_40, nm_180, nm_300, nm_10210, na_0, na_2, na_3, na_4, na_5, na_6, na_7, na_8, nm_p, nm_m, nI_clamp, e6, e5]); exact rfl) dX8_comes_83 ?_
              refine x_iload hκ dX8_comes_84 rfl ?_
              refine x_iaddN hκ (by (try simp (disch := omega) only [tS_1, tS_2, tA_1, tA_2, tF_1, tF_2, xl_0, xl_1, xl_2, Nat.reduceEqDiff, ↓reduceIte, nI_add, nI_1, nm_2, nm_3, nm_4, nm_6, nm_7, nm_8, nm_12, nm_16, nm_24, nm_40, nm_180, nm_300, nm_10210, na_0, na_2, na_3, na_4, na_5, na_6, na_7, na_8, nm_p, nm_m, nI_clamp, e6, e5]); exact rfl) dX8_comes_86 ?_
              refine t_iald (n := 18) hκ hθ (by decide) rfl rfl (by first | ((with_reducible refine vp_in_nI ?_ ?_) <;> omega) | exact i32_in (by omega) (by omega) | exact i32_in' (by simp only [Int32.toInt_add, Int32.toInt_mul, Int32.toInt_sub, Int32.reduceToInt, Int.bmod_add_bmod, Int.bmod_sub_bmod, Int.add_bmod_bmod, Int.sub_bmod_bmod, Int.bmod_mul_bmod, Int.mul_bmod_bmod]; exact i32_bm (by omega) (by omega)) (by omega) (by omega) | exact i32_in (by decide) (by decide)) (by (try simp (disch := omega) only [tS_1, tS_2, tA_1, tA_2, tF_1, tF_2, xl_0, xl_1, xl_2, Nat.reduceEqDiff, ↓reduceIte, nI_add, nI_1, nm_2, nm_3, nm_4, nm_6, nm_7, nm_8, nm_12, nm_16, nm_24, nm_40, nm_180, nm_300, nm_10210, na_0, na_2, na_3, na_4, na_5, na_6, na_7, na_8, nm_p, nm_m, nI_clamp, e6, e5]); exact rfl) dX8_comes_87 ?_
              refine x_icmp_ge (tgt := 149) hκ dX8_comes_88 (by decide) (fun c88 => ?_) (fun c88 => ?_)
              · -- X8_comes 88T
                have i88 := c88
                simp (disch := omega) only [i32_lt, i32_le, i32_eq, Int32.reduceToInt, nI_toInt] at i88
                obtain rfl : i = R[r].2.length := by omega
                by_cases hh : hv (so σ l b ∘ Int32.toNatClampNeg) R[r].1
                · rcases hyes hh with ⟨w1, w2, w3⟩ | ⟨w1, w2, w3⟩
                  · rw [List.take_length] at w3
                    rw [List.drop_length] at w2
                    refine x_iincN (y := 1) hκ dX8_comes_149 (by decide) rfl (by rw [hL]; decide) rfl (by (try simp (disch := omega) only [tS_1, tS_2, tA_1, tA_2, tF_1, tF_2, xl_0, xl_1, xl_2, Nat.reduceEqDiff, ↓reduceIte, nI_add, nI_1, nm_2, nm_3, nm_4, nm_6, nm_7, nm_8, nm_12, nm_16, nm_24, nm_40, nm_180, nm_300, nm_10210, na_0, na_2, na_3, na_4, na_5, na_6, na_7, na_8, nm_p, nm_m, nI_clamp]); exact rfl) ?_
                    refine x_goto (tgt := 41) hκ dX8_comes_152 (by decide) ?_
                    exact ih (r + 1) s' z4 _ _ _ rfl rfl (by omega) (by omega) hci2 (Or.inl ⟨w1, fun y hy => hz y ⟨g, fun _ => by rw [if_neg w3, ← w2]; exact hy, fun w => absurd hh w⟩⟩)
                  · exact next w3 hh w2 w1
                · obtain ⟨w1, w2, w3⟩ := hno hh
                  refine x_iincN (y := 1) hκ dX8_comes_149 (by decide) rfl (by rw [hL]; decide) rfl (by (try simp (disch := omega) only [tS_1, tS_2, tA_1, tA_2, tF_1, tF_2, xl_0, xl_1, xl_2, Nat.reduceEqDiff, ↓reduceIte, nI_add, nI_1, nm_2, nm_3, nm_4, nm_6, nm_7, nm_8, nm_12, nm_16, nm_24, nm_40, nm_180, nm_300, nm_10210, na_0, na_2, na_3, na_4, na_5, na_6, na_7, na_8, nm_p, nm_m, nI_clamp]); exact rfl) ?_
                  refine x_goto (tgt := 41) hκ dX8_comes_152 (by decide) ?_
                  exact ih (r + 1) s' z4 _ _ _ rfl rfl (by omega) (by omega) hci2 (Or.inl ⟨w2, fun y hy => hz y ⟨g, fun w => absurd w hh, fun _ => by rw [← w3]; exact hy⟩⟩)
              · -- X8_comes 88F
                have i88 := c88
                simp (disch := omega) only [i32_lt, i32_le, i32_eq, Int32.reduceToInt, nI_toInt] at i88
                refine x_iload hκ dX8_comes_91 rfl ?_
                refine x_if_eq (tgt := 149) hκ dX8_comes_93 (by decide) (fun c93 => ?_) (fun c93 => ?_)
                · -- X8_comes 93T
                  have i93 := c93
                  simp (disch := omega) only [i32_lt, i32_le, i32_eq, Int32.reduceToInt, nI_toInt] at i93
                  have hh := h66.f c93
                  obtain ⟨w1, w2, w3⟩ := hno hh
                  refine x_iincN (y := 1) hκ dX8_comes_149 (by decide) rfl (by rw [hL]; decide) rfl (by (try simp (disch := omega) only [tS_1, tS_2, tA_1, tA_2, tF_1, tF_2, xl_0, xl_1, xl_2, Nat.reduceEqDiff, ↓reduceIte, nI_add, nI_1, nm_2, nm_3, nm_4, nm_6, nm_7, nm_8, nm_12, nm_16, nm_24, nm_40, nm_180, nm_300, nm_10210, na_0, na_2, na_3, na_4, na_5, na_6, na_7, na_8, nm_p, nm_m, nI_clamp]); exact rfl) ?_
                  refine x_goto (tgt := 41) hκ dX8_comes_152 (by decide) ?_
                  exact ih (r + 1) s' z4 _ _ _ rfl rfl (by omega) (by omega) hci2 (Or.inl ⟨w2, fun y hy => hz y ⟨g, fun w => absurd w hh, fun _ => by rw [← w3]; exact hy⟩⟩)
                · -- X8_comes 93F
                  have i93 := c93
                  simp (disch := omega) only [i32_lt, i32_le, i32_eq, Int32.reduceToInt, nI_toInt] at i93
                  refine x_iload hκ dX8_comes_96 rfl ?_
                  refine x_if_ne (tgt := 149) hκ dX8_comes_98 (by decide) (fun c98 => ?_) (fun c98 => ?_)
                  · -- X8_comes 98T
                    have i98 := c98
                    simp (disch := omega) only [i32_lt, i32_le, i32_eq, Int32.reduceToInt, nI_toInt] at i98
                    have hh := h66.t c93
                    rcases hyes hh with ⟨w1, w2, w3⟩ | ⟨w1, w2, w3⟩
                    · exact absurd w1 c98
                    · exact next w3 hh w2 w1
                  · -- X8_comes 98F
                    have i98 := c98
                    simp (disch := omega) only [i32_lt, i32_le, i32_eq, Int32.reduceToInt, nI_toInt] at i98
                    have hh := h66.t c93
                    obtain ⟨-, w2, w3⟩ : z4 = 0 ∧ doA l b tr (R[r].2.drop i) s' = doA l b tr R[r].2 (tF (tS s 21 0) 20 g) ∧ (10 ∉ R[r].2.take i) := by rcases hyes hh with w | w; exact w; exact absurd c98 w.1
                    have hil : i < R[r].2.length := by omega
                    have hdr := hA7.drop hil
                    have hcd := hA8.2.2.2 _ (hA7.at hil)
                    rw [hdr, doA] at w2
                    obtain ⟨kc, hkc, ekc⟩ : ∃ kc : Nat, kc ≤ 10 ∧ σ.2 5 (24 * b + 4 * r + i) = nI kc := ⟨Int32.toNatClampNeg (σ.2 5 (24 * b + 4 * r + i)), by show (σ.2 5 (24 * b + 4 * r + i)).toInt.toNat ≤ 10; omega, i32_nI hcd.1⟩
                    have hci3 := hci2.acts h8 hn hl hb hd hkc
                    rw [← ekc] at hci3
                    have htk : R[r].2.take (i + 1) = R[r].2.take i ++ [σ.2 5 (24 * b + 4 * r + i)] := by rw [List.take_add_one, hA7 i hil]; rfl
                    refine x_aload_n hκ dX8_comes_101 rfl ?_
                    refine t_getA hκ fl8_5 (by decide) (by decide) rfl dX8_comes_102 ?_
                    refine x_bipush (v := 24) hκ dX8_comes_105 (by decide) ?_
                    refine x_iload_n hκ dX8_comes_107 rfl ?_
                    refine x_imulN hκ (by (try simp (disch := omega) only [tS_1, tS_2, tA_1, tA_2, tF_1, tF_2, xl_0, xl_1, xl_2, Nat.reduceEqDiff, ↓reduceIte, nI_add, nI_1, nm_2, nm_3, nm_4, nm_6, nm_7, nm_8, nm_12, nm_16, nm_24, nm_40, nm_180, nm_300, nm_10210, na_0, na_2, na_3, na_4, na_5, na_6, na_7, na_8, nm_p, nm_m, nI_clamp, e6, e5]); exact rfl) dX8_comes_108 ?_
                    refine x_iconst (v := 4) hκ dX8_comes_109 (by decide) ?_
                    refine x_iload hκ dX8_comes_110 rfl ?_
                    refine x_imulN hκ (by (try simp (disch := omega) only [tS_1, tS_2, tA_1, tA_2, tF_1, tF_2, xl_0, xl_1, xl_2, Nat.reduceEqDiff, ↓reduceIte, nI_add, nI_1, nm_2, nm_3, nm_4, nm_6, nm_7, nm_8, nm_12, nm_16, nm_24, nm_40, nm_180, nm_300, nm_10210, na_0, na_2, na_3, na_4, na_5, na_6, na_7, na_8, nm_p, nm_m, nI_clamp, e6, e5]); exact rfl) dX8_comes_112 ?_
                    refine x_iaddN hκ (by (try simp (disch := omega) only [tS_1, tS_2, tA_1, tA_2, tF_1, tF_2, xl_0, xl_1, xl_2, Nat.reduceEqDiff, ↓reduceIte, nI_add, nI_1, nm_2, nm_3, nm_4, nm_6, nm_7, nm_8, nm_12, nm_16, nm_24, nm_40, nm_180, nm_300, nm_10210, na_0, na_2, na_3, na_4, na_5, na_6, na_7, na_8, nm_p, nm_m, nI_clamp, e6, e5]); exact rfl) dX8_comes_113 ?_
                    refine x_iload hκ dX8_comes_114 rfl ?_
                    refine x_iaddN hκ (by (try simp (disch := omega) only [tS_1, tS_2, tA_1, tA_2, tF_1, tF_2, xl_0, xl_1, xl_2, Nat.reduceEqDiff, ↓reduceIte, nI_add, nI_1, nm_2, nm_3, nm_4, nm_6, nm_7, nm_8, nm_12, nm_16, nm_24, nm_40, nm_180, nm_300, nm_10210, na_0, na_2, na_3, na_4, na_5, na_6, na_7, na_8, nm_p, nm_m, nI_clamp, e6, e5]); exact rfl) dX8_comes_116 ?_
                    refine t_iald (n := 72) hκ hθ (by decide) rfl rfl (by first | ((with_reducible refine vp_in_nI ?_ ?_) <;> omega) | exact i32_in (by omega) (by omega) | exact i32_in' (by simp only [Int32.toInt_add, Int32.toInt_mul, Int32.toInt_sub, Int32.reduceToInt, Int.bmod_add_bmod, Int.bmod_sub_bmod, Int.add_bmod_bmod, Int.sub_bmod_bmod, Int.bmod_mul_bmod, Int.mul_bmod_bmod]; exact i32_bm (by omega) (by omega)) (by omega) (by omega) | exact i32_in (by decide) (by decide)) (by (try simp (disch := omega) only [tS_1, tS_2, tA_1, tA_2, tF_1, tF_2, xl_0, xl_1, xl_2, Nat.reduceEqDiff, ↓reduceIte, nI_add, nI_1, nm_2, nm_3, nm_4, nm_6, nm_7, nm_8, nm_12, nm_16, nm_24, nm_40, nm_180, nm_300, nm_10210, na_0, na_2, na_3, na_4, na_5, na_6, na_7, na_8, nm_p, nm_m, nI_clamp, e6, e5]); exact rfl) dX8_comes_117 ?_
                    refine x_istore hκ dX8_comes_118 (by rw [hL]; decide) rfl ?_
                    refine x_iload hκ dX8_comes_120 rfl ?_
                    refine x_bipush (v := 10) hκ dX8_comes_122 (by decide) ?_
                    refine x_icmp_ne (tgt := 131) hκ dX8_comes_124 (by decide) (fun c124 => ?_) (fun c124 => ?_)
                    · -- X8_comes 124T
                      have i124 := c124
                      simp (disch := omega) only [i32_lt, i32_le, i32_eq, Int32.reduceToInt, nI_toInt] at i124
                      refine x_iconst (v := 0) hκ dX8_comes_131 (by decide) ?_
                      refine x_istore hκ dX8_comes_132 (by rw [hL]; decide) rfl ?_
                      refine x_aload_n hκ dX8_comes_134 rfl ?_
                      refine x_iload hκ dX8_comes_135 rfl ?_
                      refine x_iload_n hκ dX8_comes_137 rfl ?_
                      refine x_iload_n hκ dX8_comes_138 rfl ?_
                      refine x_iload_n hκ dX8_comes_139 rfl ?_
                      refine t_callv hκ (mX8_acts hθ en (by omega) e48 (by omega) (by omega) hb (by rw [hrow2.1]; exact hf)) (by omega) (by decide) wX8_263 aX8_acts rfl (Nat.le_of_ble_eq_true rfl) dX8_comes_140 (fun σ140 h140 => ?_)
                      subst h140
                      refine x_iincN (y := 1) hκ dX8_comes_143 (by decide) rfl (by rw [hL]; decide) rfl (by (try simp (disch := omega) only [tS_1, tS_2, tA_1, tA_2, tF_1, tF_2, xl_0, xl_1, xl_2, Nat.reduceEqDiff, ↓reduceIte, nI_add, nI_1, nm_2, nm_3, nm_4, nm_6, nm_7, nm_8, nm_12, nm_16, nm_24, nm_40, nm_180, nm_300, nm_10210, na_0, na_2, na_3, na_4, na_5, na_6, na_7, na_8, nm_p, nm_m, nI_clamp, e6, e5]); exact rfl) ?_
                      refine x_goto (tgt := 74) hκ dX8_comes_146 (by decide) ?_
                      rw [if_neg c124] at w2
                      exact ih2 (i + 1) _ 0 _ (by omega) (by omega) hci3 (fun _ => Or.inl ⟨rfl, w2, by rw [htk, List.mem_append, List.mem_singleton]; rintro (w | w); exact w3 w; exact c124 w.symm⟩) (fun w => absurd hh w)
                    · -- X8_comes 124F
                      have i124 := c124
                      simp (disch := omega) only [i32_lt, i32_le, i32_eq, Int32.reduceToInt, nI_toInt] at i124
                      refine x_iconst (v := 1) hκ dX8_comes_127 (by decide) ?_
                      refine x_goto (tgt := 132) hκ dX8_comes_128 (by decide) ?_
                      refine x_istore hκ dX8_comes_132 (by rw [hL]; decide) rfl ?_
                      refine x_aload_n hκ dX8_comes_134 rfl ?_
                      refine x_iload hκ dX8_comes_135 rfl ?_
                      refine x_iload_n hκ dX8_comes_137 rfl ?_
                      refine x_iload_n hκ dX8_comes_138 rfl ?_
                      refine x_iload_n hκ dX8_comes_139 rfl ?_
                      refine t_callv hκ (mX8_acts hθ en (by omega) e48 (by omega) (by omega) hb (by rw [hrow2.1]; exact hf)) (by omega) (by decide) wX8_263 aX8_acts rfl (Nat.le_of_ble_eq_true rfl) dX8_comes_140 (fun σ140 h140 => ?_)
                      subst h140
                      refine x_iincN (y := 1) hκ dX8_comes_143 (by decide) rfl (by rw [hL]; decide) rfl (by (try simp (disch := omega) only [tS_1, tS_2, tA_1, tA_2, tF_1, tF_2, xl_0, xl_1, xl_2, Nat.reduceEqDiff, ↓reduceIte, nI_add, nI_1, nm_2, nm_3, nm_4, nm_6, nm_7, nm_8, nm_12, nm_16, nm_24, nm_40, nm_180, nm_300, nm_10210, na_0, na_2, na_3, na_4, na_5, na_6, na_7, na_8, nm_p, nm_m, nI_clamp, e6, e5]); exact rfl) ?_
                      refine x_goto (tgt := 74) hκ dX8_comes_146 (by decide) ?_
                      rw [if_pos c124] at w2
                      refine ih2 (i + 1) _ 1 _ (by omega) (by omega) hci3 (fun _ => Or.inr ⟨by decide, ?_, ?_⟩) (fun w => absurd hh w)
                      · rw [← w2, c124]
                        unfold actsS
                        rw [if_neg (by decide), if_neg (by decide), if_neg (by decide), if_neg (by decide), if_neg (by decide)]
                      · rw [← c124]
                        exact hA7.at hil
          rcases (show z = 0 from c54) with rfl
          exact inner (R[r].2.length + 1) 0 _ 0 _ (by omega) (by omega) hci1 (fun _ => Or.inl ⟨rfl, by rw [List.drop_zero], by rw [List.take_zero]; exact List.not_mem_nil⟩) (fun _ => ⟨rfl, rfl, rfl⟩)
  refine x_aload_n hκ dX8_comes_0 rfl ?_
  refine x_iconst (v := 0) hκ dX8_comes_1 (by decide) ?_
  refine t_put hκ fl8_49 (by decide) (by decide) rfl rfl rfl dX8_comes_2 ?_
  refine x_aload_n hκ dX8_comes_5 rfl ?_
  refine x_iconst (v := 0) hκ dX8_comes_6 (by decide) ?_
  refine t_put hκ fl8_50 (by decide) (by decide) rfl rfl rfl dX8_comes_7 ?_
  refine x_aload_n hκ dX8_comes_10 rfl ?_
  refine x_iconst (v := 0) hκ dX8_comes_11 (by decide) ?_
  refine t_putZ hκ fl8_51 (by decide) (by decide) rfl rfl rfl (by first | exact Or.inl rfl | exact Or.inr rfl | assumption) dX8_comes_12 ?_
  refine x_aload_n hκ dX8_comes_15 rfl ?_
  refine x_iconst (v := 0) hκ dX8_comes_16 (by decide) ?_
  refine t_putZ hκ fl8_52 (by decide) (by decide) rfl rfl rfl (by first | exact Or.inl rfl | exact Or.inr rfl | assumption) dX8_comes_17 ?_
  refine x_aload_n hκ dX8_comes_20 rfl ?_
  refine x_iconst (v := (-1)) hκ dX8_comes_21 (by decide) ?_
  refine t_put hκ fl8_53 (by decide) (by decide) rfl rfl rfl dX8_comes_22 ?_
  refine x_aload_n hκ dX8_comes_25 rfl ?_
  refine x_iload_n hκ dX8_comes_26 rfl ?_
  refine t_put hκ fl8_23 (by decide) (by decide) rfl rfl rfl dX8_comes_27 ?_
  refine x_aload_n hκ dX8_comes_30 rfl ?_
  refine x_iload_n hκ dX8_comes_31 rfl ?_
  refine t_put hκ fl8_24 (by decide) (by decide) rfl rfl rfl dX8_comes_32 ?_
  refine x_iconst (v := 0) hκ dX8_comes_35 (by decide) ?_
  refine x_istore hκ dX8_comes_36 (by rw [hL]; decide) rfl ?_
  refine x_iconst (v := 0) hκ dX8_comes_38 (by decide) ?_
  refine x_istore hκ dX8_comes_39 (by rw [hL]; decide) rfl ?_
  exact outer (R.length + 1) 0 (in0 σ l b) 0 none none none rfl rfl (by omega) (by omega) (CI.start h48 h25) (Or.inl ⟨rfl, fun y hy => by rw [List.drop_zero] at hy; exact hy⟩)
