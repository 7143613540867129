/-! MODULE Model, trees: part, tree (by gen37.py) -/
set_option maxRecDepth 100000
/-- a row holds a list of numbers from a place on -/
def gl_ra (f : Nat → Int32) : Nat → List Nat → Prop
  | _, [] => True
  | a, x :: l => f a = nI x ∧ gl_ra f (a + 1) l
theorem gl_ra_same {f g : Nat → Int32} : ∀ {l : List Nat} {a : Nat}, gl_ra f a l → (∀ i, a ≤ i → i < a + l.length → g i = f i) → gl_ra g a l
  | [], _, _, _ => trivial
  | x :: l, a, h, e => by
    simp only [List.length_cons] at e
    exact ⟨by rw [e a (by omega) (by omega)]; exact h.1, gl_ra_same h.2 (fun i h1 h2 => e i (by omega) (by omega))⟩
theorem gl_ra_app {f : Nat → Int32} : ∀ {l m : List Nat} {a : Nat}, gl_ra f a (l ++ m) ↔ gl_ra f a l ∧ gl_ra f (a + l.length) m
  | [], m, a => by simp [gl_ra]
  | x :: l, m, a => by
    rw [List.cons_append, gl_ra, gl_ra, gl_ra_app (l := l), List.length_cons, and_assoc, show a + 1 + l.length = a + (l.length + 1) by omega]
theorem gl_ra_at {f : Nat → Int32} : ∀ {l : List Nat} {a i : Nat} (_ : gl_ra f a l) (hi : i < l.length), f (a + i) = nI l[i]
  | x :: l, a, 0, h, _ => h.1
  | x :: l, a, i + 1, h, hi => by
    have := gl_ra_at (i := i) h.2 (by simpa using hi)
    rw [show a + (i + 1) = a + 1 + i by omega]
    simpa using this
theorem gl_ra_shift {f g : Nat → Int32} : ∀ {l : List Nat} {a b : Nat}, gl_ra f a l → (∀ i, i < l.length → g (b + i) = f (a + i)) → gl_ra g b l
  | [], _, _, _, _ => trivial
  | x :: l, a, b, h, e => by
    refine ⟨by have := e 0 (by simp); rw [Nat.add_zero, Nat.add_zero] at this; rw [this]; exact h.1, gl_ra_shift (a := a + 1) h.2 (fun i hi => ?_)⟩
    have := e (i + 1) (by simpa using hi)
    rw [show b + 1 + i = b + (i + 1) by omega, show a + 1 + i = a + (i + 1) by omega]
    exact this
set_option maxHeartbeats 4000000 in
set_option maxRecDepth 100000 in
theorem ct_X9_part {l : Launch} {δ : gl_Del} {I : Nat → Nat → Int32} {L : Nat → Nat → Int64} {B : Nat → Nat → Bool} {a b d : Nat} {l0 : List Nat} (h : Nat) (hh : 2 ≤ h) (hl0 : gl_ra (I 50) a l0) (hab : a + l0.length = b) (hb400 : b ≤ 400) (hx0 : ∀ x ∈ l0, x < 400) (hd : d < 256) : gl_Ct l δ yX9_part (ws_ yX9_part cX9_part 7 ((some FieldType.int))) (gl_rm h 0 0) 0 0 [.ref 0, .int (nI a), .int (nI b), .int (nI d)] (gl_mL, I, L, B, gl_mR) (gl_Qi fun r S => r = nI (a + (l0.filter (fun x => !gl_bit (fun t => I 49 (8 * x + t)) d)).length) ∧ ∃ I', S = (gl_mL, I', L, B, gl_mR) ∧ gl_fq [50, 51] [] I I' ∧ gl_ra (I' 50) a ((l0.filter (fun x => !gl_bit (fun t => I 49 (8 * x + t)) d)) ++ (l0.filter (fun x => gl_bit (fun t => I 49 (8 * x + t)) d))) ∧ ∀ i, i < a ∨ b ≤ i → I' 50 i = I 50 i) := by
  refine gl_of (by decide) (Nat.le_of_ble_eq_true rfl) rfl ?_
  intro κ C hQ hlκ hδκ hnL hini
  change gl_Cx κ RX9 _ _ _ at C
  have fin2 : ∀ (n m : Nat) (I1 : Nat → Nat → Int32), n = a + (l0.filter (fun x => !gl_bit (fun t => I 49 (8 * x + t)) d)).length → m = (l0.filter (fun x => gl_bit (fun t => I 49 (8 * x + t)) d)).length → n + m = b → (l0.filter (fun x => !gl_bit (fun t => I 49 (8 * x + t)) d)) = (l0.filter (fun x => !gl_bit (fun t => I 49 (8 * x + t)) d)) → (l0.filter (fun x => gl_bit (fun t => I 49 (8 * x + t)) d)) = (l0.filter (fun x => gl_bit (fun t => I 49 (8 * x + t)) d)) → gl_ra (I1 50) a (l0.filter (fun x => !gl_bit (fun t => I 49 (8 * x + t)) d)) → gl_ra (I1 51) 0 (l0.filter (fun x => gl_bit (fun t => I 49 (8 * x + t)) d)) → gl_fq [50, 51] [] I I1 → (∀ i, i < a ∨ b ≤ i → I1 50 i = I 50 i) → nI n = nI (a + (l0.filter (fun x => !gl_bit (fun t => I 49 (8 * x + t)) d)).length) ∧ ∃ I', ((gl_mL, va_up I1 50 (va_cpy (I1 51) (I1 50) 0 n m), L, B, gl_mR) : gl_Sto) = (gl_mL, I', L, B, gl_mR) ∧ gl_fq [50, 51] [] I I' ∧ gl_ra (I' 50) a ((l0.filter (fun x => !gl_bit (fun t => I 49 (8 * x + t)) d)) ++ (l0.filter (fun x => gl_bit (fun t => I 49 (8 * x + t)) d))) ∧ ∀ i, i < a ∨ b ≤ i → I' 50 i = I 50 i := by
    intro n m I1 hn hm hbm _ _ hra hrb hf hout
    refine ⟨by rw [hn], _, rfl, hf.up (by decide) (by decide), ?_, fun i hi => ?_⟩
    · rw [gl_up_eq]
      refine gl_ra_app.mpr ⟨gl_ra_same hra (fun i h1 h2 => pk_cpy_out (by omega)), gl_ra_shift hrb (fun i hi => ?_)⟩
      rw [← hn, Nat.zero_add, pk_cpy_in (by omega) (by omega)]
      congr 1; omega
    · rw [gl_up_eq, pk_cpy_out (by omega)]
      exact hout i hi
  have part2 : ∀ (n m : Nat) (I1 : Nat → Nat → Int32) (k : Int32), n = a + (l0.filter (fun x => !gl_bit (fun t => I 49 (8 * x + t)) d)).length → m = (l0.filter (fun x => gl_bit (fun t => I 49 (8 * x + t)) d)).length → n + m = b → gl_ra (I1 50) a (l0.filter (fun x => !gl_bit (fun t => I 49 (8 * x + t)) d)) → gl_ra (I1 51) 0 (l0.filter (fun x => gl_bit (fun t => I 49 (8 * x + t)) d)) → gl_fq [50, 51] [] I I1 → (∀ i, i < a ∨ b ≤ i → I1 50 i = I 50 i) → gl_J κ 0 0 (gl_mL, I1, L, B, gl_mR) 79 [some (.ref 0), some (.int (nI a)), some (.int (nI b)), some (.int (nI d)), some (.int (nI n)), some (.int (nI m)), some (.int k)] [] := by
    intro n m I1 k hn hm hbm hra hrb hf hout
    have hz : (l0.filter (fun x => !gl_bit (fun t => I 49 (8 * x + t)) d)) = (l0.filter (fun x => !gl_bit (fun t => I 49 (8 * x + t)) d)) := rfl
    have hw : (l0.filter (fun x => gl_bit (fun t => I 49 (8 * x + t)) d)) = (l0.filter (fun x => gl_bit (fun t => I 49 (8 * x + t)) d)) := rfl
    have loop2 : ∀ k j : Nat, j + k = m → gl_J κ 0 0 (gl_mL, va_up I1 50 (va_cpy (I1 51) (I1 50) 0 n j), L, B, gl_mR) 82 [some (.ref 0), some (.int (nI a)), some (.int (nI b)), some (.int (nI d)), some (.int (nI n)), some (.int (nI m)), some (.int (nI j))] [] := by
      intro k
      induction k with
      | zero =>
        intro j hj
        have hjN : j = m := by omega
        subst hjN
        refine j_iload C dX9_part_82 rfl 84 rfl ?_
        refine j_iload C dX9_part_84 rfl 86 rfl ?_
        refine n_icmp_ge C 112 89 dX9_part_86 (by decide) rfl (by omega) (by omega) (fun c_86 => ?_) (fun c_86 => ?_)
        · refine j_iload C dX9_part_112 rfl 114 rfl ?_
          exact j_iret C hQ (fin2 n _ I1 hn hm hbm hz hw hra hrb hf hout) (by omega) (by omega) dX9_part_114
        · exact absurd c_86 (by omega)
      | succ k ih =>
        intro j hj
        refine j_iload C dX9_part_82 rfl 84 rfl ?_
        refine j_iload C dX9_part_84 rfl 86 rfl ?_
        refine n_icmp_ge C 112 89 dX9_part_86 (by decide) rfl (by omega) (by omega) (fun c_86 => ?_) (fun c_86 => ?_)
        · exact absurd c_86 (by omega)
        · refine j_aload_n C dX9_part_89 rfl 90 rfl ?_
          refine gf_X9_160 C rfl rfl dX9_part_90 93 rfl ?_
          refine j_iload C dX9_part_93 rfl 95 rfl ?_
          refine j_iload C dX9_part_95 rfl 97 rfl ?_
          refine n_iadd C dX9_part_97 98 rfl ?_
          refine j_aload_n C dX9_part_98 rfl 99 rfl ?_
          refine gf_X9_163 C rfl rfl dX9_part_99 102 rfl ?_
          refine j_iload C dX9_part_102 rfl 104 rfl ?_
          refine j_iald C rfl (by omega) (by decide) dX9_part_104 105 rfl ?_
          rw [gl_up_ne (show (51 : Nat) ≠ 50 by decide)]
          refine j_iast C rfl (by omega) (by decide) dX9_part_105 106 rfl ?_
          refine n_iinc C dX9_part_106 rfl (by rw [hnL]; decide) rfl 109 rfl ?_
          refine j_goto (tgt := 82) C dX9_part_109 (by decide) ?_
          rw [gl_u2_up, gl_cpy_s (a := I1 51)]
          exact ih (j + 1) (by omega)
    refine j_iconst (v := nI 0) C dX9_part_79 (by decide) 80 rfl ?_
    refine j_istore C dX9_part_80 (Nat.le_of_ble_eq_true rfl) (by rw [hnL]; decide) rfl 82 rfl ?_
    have := loop2 m 0 (by omega)
    rw [gl_cpy_0, gl_up_self] at this
    exact this
  have loop1 : ∀ (l z w : List Nat) (n m k : Nat) (I1 : Nat → Nat → Int32), n = a + z.length → m = w.length → k = n + m → k + l.length = b → gl_ra (I1 50) k l → gl_ra (I1 50) a z → gl_ra (I1 51) 0 w → gl_fq [50, 51] [] I I1 → (∀ i, i < a ∨ b ≤ i → I1 50 i = I 50 i) → (∀ x ∈ l, x < 400) → z ++ l.filter (fun x => !gl_bit (fun t => I 49 (8 * x + t)) d) = (l0.filter (fun x => !gl_bit (fun t => I 49 (8 * x + t)) d)) → w ++ l.filter (fun x => gl_bit (fun t => I 49 (8 * x + t)) d) = (l0.filter (fun x => gl_bit (fun t => I 49 (8 * x + t)) d)) → gl_J κ 0 0 (gl_mL, I1, L, B, gl_mR) 9 [some (.ref 0), some (.int (nI a)), some (.int (nI b)), some (.int (nI d)), some (.int (nI n)), some (.int (nI m)), some (.int (nI k))] [] := by
    intro l
    induction l with
    | nil =>
      intro z w n m k I1 hn hm hk hb hl hra hrb hf hout hlt hZ hW
      simp only [List.length_nil] at hb
      rw [List.filter_nil, List.append_nil] at hZ hW
      rw [hZ] at hn hra
      rw [hW] at hm hrb
      refine j_iload C dX9_part_9 rfl 11 rfl ?_
      refine j_iload_n C dX9_part_11 rfl 12 rfl ?_
      refine n_icmp_ge C 79 15 dX9_part_12 (by decide) rfl (by omega) (by omega) (fun c_12 => ?_) (fun c_12 => ?_)
      · exact part2 n m I1 (nI k) hn hm (by omega) hra hrb hf hout
      · exact absurd c_12 (by omega)
    | cons x l ih =>
      intro z w n m k I1 hn hm hk hb hl hra hrb hf hout hlt hZ hW
      simp only [List.length_cons] at hb
      have hx : x < 400 := hlt x List.mem_cons_self
      have h49 : I1 49 = I 49 := hf.1 49 (by decide) (by decide)
      refine j_iload C dX9_part_9 rfl 11 rfl ?_
      refine j_iload_n C dX9_part_11 rfl 12 rfl ?_
      refine n_icmp_ge C 79 15 dX9_part_12 (by decide) rfl (by omega) (by omega) (fun c_12 => ?_) (fun c_12 => ?_)
      · exact absurd c_12 (by omega)
      · refine j_aload_n C dX9_part_15 rfl 16 rfl ?_
        refine gf_X9_157 C rfl rfl dX9_part_16 19 rfl ?_
        refine j_bipush (v := nI 8) C dX9_part_19 (by decide) 21 rfl ?_
        refine j_aload_n C dX9_part_21 rfl 22 rfl ?_
        refine gf_X9_160 C rfl rfl dX9_part_22 25 rfl ?_
        refine j_iload C dX9_part_25 rfl 27 rfl ?_
        refine j_iald C rfl (by omega) (by decide) dX9_part_27 28 rfl ?_
        rw [hl.1]
        refine n_imul C dX9_part_28 29 rfl ?_
        refine j_iload_n C dX9_part_29 rfl 30 rfl ?_
        refine j_ci C (cs_X9_237 C (ct_X9_isOne (Λ := gl_mL) (R := gl_mR) (x := 49) (nx := 3200) (fr := 8 * x) (h - 1) (by omega) rfl (by omega) (by decide) hd) rfl (by omega) (by omega) (by omega) rfl (Nat.le_of_ble_eq_true rfl) dX9_part_30) 33 rfl ?_
        rintro _ _ ⟨rfl, rfl⟩
        rw [h49]
        refine b_if_eq C 56 36 dX9_part_33 (by decide) rfl (fun c_33 => ?_) (fun c_33 => ?_)
        · refine j_aload_n C dX9_part_56 rfl 57 rfl ?_
          refine gf_X9_160 C rfl rfl dX9_part_57 60 rfl ?_
          refine j_iload C dX9_part_60 rfl 62 rfl ?_
          refine j_aload_n C dX9_part_62 rfl 63 rfl ?_
          refine gf_X9_160 C rfl rfl dX9_part_63 66 rfl ?_
          refine j_iload C dX9_part_66 rfl 68 rfl ?_
          refine j_iald C rfl (by omega) (by decide) dX9_part_68 69 rfl ?_
          rw [hl.1]
          refine j_iast C rfl (by omega) (by decide) dX9_part_69 70 rfl ?_
          refine n_iinc C dX9_part_70 rfl (by rw [hnL]; decide) rfl 73 rfl ?_
          refine n_iinc C dX9_part_73 rfl (by rw [hnL]; decide) rfl 76 rfl ?_
          refine j_goto (tgt := 9) C dX9_part_76 (by decide) ?_
          refine ih (z ++ [x]) w (n + 1) m (k + 1) _ ?_ hm (by omega) (by omega) ?_ ?_ ?_ (hf.u2 (by decide) (by decide)) (fun i hi => ?_) (fun y hy => hlt y (List.mem_cons_of_mem _ hy)) ?_ ?_
          · rw [hn, List.length_append]; rfl
          · rw [gl_u2_eq]; exact gl_ra_same hl.2 (fun i h1 h2 => gl_up_ne (by omega))
          · rw [gl_u2_eq]; exact gl_ra_app.mpr ⟨gl_ra_same hra (fun i h1 h2 => gl_up_ne (by omega)), by rw [← hn]; exact gl_up_eq, trivial⟩
          · rw [gl_u2_ne (show (51 : Nat) ≠ 50 by decide)]; exact hrb
          · rw [gl_u2_eq, gl_up_ne (by omega)]; exact hout i hi
          · rw [← hZ, List.filter_cons_of_pos (by rw [c_33]; rfl), List.append_assoc]; rfl
          · rw [← hW, List.filter_cons_of_neg (by rw [c_33]; decide)]
        · refine j_aload_n C dX9_part_36 rfl 37 rfl ?_
          refine gf_X9_163 C rfl rfl dX9_part_37 40 rfl ?_
          refine j_iload C dX9_part_40 rfl 42 rfl ?_
          refine j_aload_n C dX9_part_42 rfl 43 rfl ?_
          refine gf_X9_160 C rfl rfl dX9_part_43 46 rfl ?_
          refine j_iload C dX9_part_46 rfl 48 rfl ?_
          refine j_iald C rfl (by omega) (by decide) dX9_part_48 49 rfl ?_
          rw [hl.1]
          refine j_iast C rfl (by omega) (by decide) dX9_part_49 50 rfl ?_
          refine n_iinc C dX9_part_50 rfl (by rw [hnL]; decide) rfl 53 rfl ?_
          refine j_goto (tgt := 73) C dX9_part_53 (by decide) ?_
          refine n_iinc C dX9_part_73 rfl (by rw [hnL]; decide) rfl 76 rfl ?_
          refine j_goto (tgt := 9) C dX9_part_76 (by decide) ?_
          refine ih z (w ++ [x]) n (m + 1) (k + 1) _ hn ?_ (by omega) (by omega) ?_ ?_ ?_ (hf.u2 (by decide) (by decide)) (fun i hi => ?_) (fun y hy => hlt y (List.mem_cons_of_mem _ hy)) ?_ ?_
          · rw [hm, List.length_append]; rfl
          · rw [gl_u2_ne (show (50 : Nat) ≠ 51 by decide)]; exact hl.2
          · rw [gl_u2_ne (show (50 : Nat) ≠ 51 by decide)]; exact hra
          · rw [gl_u2_eq]; exact gl_ra_app.mpr ⟨gl_ra_same hrb (fun i h1 h2 => gl_up_ne (by omega)), by rw [Nat.zero_add, ← hm]; exact gl_up_eq, trivial⟩
          · rw [gl_u2_ne (show (50 : Nat) ≠ 51 by decide)]; exact hout i hi
          · rw [← hZ, List.filter_cons_of_neg (by rw [c_33]; decide)]
          · rw [← hW, List.filter_cons_of_pos (by rw [c_33]), List.append_assoc]; rfl
  refine j_iload_n C dX9_part_0 rfl 1 rfl ?_
  refine j_istore C dX9_part_1 (Nat.le_of_ble_eq_true rfl) (by rw [hnL]; decide) rfl 3 rfl ?_
  refine j_iconst (v := nI 0) C dX9_part_3 (by decide) 4 rfl ?_
  refine j_istore C dX9_part_4 (Nat.le_of_ble_eq_true rfl) (by rw [hnL]; decide) rfl 6 rfl ?_
  refine j_iload_n C dX9_part_6 rfl 7 rfl ?_
  refine j_istore C dX9_part_7 (Nat.le_of_ble_eq_true rfl) (by rw [hnL]; decide) rfl 9 rfl ?_
  exact loop1 l0 [] [] a 0 a I rfl rfl rfl hab hl0 trivial trivial gl_fq.rf (fun i _ => rfl) hx0 rfl rfl
/-- the tree of some items by their bits from d on (f: how many bits are left) -/
def gl_tr {α : Type} (lf : α → Nat → Int32) (bt : Nat → α → Bool) : Nat → Nat → List α → Nat → Int32
  | _, _, [] => fun _ => 0
  | _, _, [x] => lf x
  | 0, _, _ :: _ :: _ => fun _ => 0
  | f + 1, d, x :: y :: l => gl_join (gl_tr lf bt f (d + 1) ((x :: y :: l).filter fun z => !bt d z)) (gl_tr lf bt f (d + 1) ((x :: y :: l).filter fun z => bt d z))
/-- they part within f bits -/
def gl_tok {α : Type} (bt : Nat → α → Bool) : Nat → Nat → List α → Prop
  | 0, _, l => l.length ≤ 1
  | f + 1, d, l => l.length ≤ 1 ∨ (gl_tok bt f (d + 1) (l.filter fun z => !bt d z) ∧ gl_tok bt f (d + 1) (l.filter fun z => bt d z))
theorem gl_tr_s {α : Type} {lf : α → Nat → Int32} {bt : Nat → α → Bool} {f d : Nat} {l : List α} (h : 2 ≤ l.length) : gl_tr lf bt (f + 1) d l = gl_join (gl_tr lf bt f (d + 1) (l.filter fun z => !bt d z)) (gl_tr lf bt f (d + 1) (l.filter fun z => bt d z)) := by
  match l, h with
  | x :: y :: l, _ => rw [gl_tr]
theorem gl_tr_1 {α : Type} {lf : α → Nat → Int32} {bt : Nat → α → Bool} {f d : Nat} {x : α} : gl_tr lf bt f d [x] = lf x := by
  cases f <;> rw [gl_tr]
theorem gl_tr_0 {α : Type} {lf : α → Nat → Int32} {bt : Nat → α → Bool} {f d : Nat} : gl_tr lf bt f d ([] : List α) = fun _ => 0 := by
  cases f <;> rw [gl_tr]
/-- what a tree leaves -/
def gl_trP (I I' : Nat → Nat → Int32) (a b d to at_ : Nat) (r : Nat → Int32) : Prop := (∀ c, c ≠ 39 → c ≠ 40 → c ≠ 50 → c ≠ 51 → c ≠ 52 → c ≠ to → I' c = I c) ∧ (∀ i, i < a ∨ b ≤ i → I' 50 i = I 50 i) ∧ (to ≠ 52 → I' to = va_cpy r (I to) 0 at_ 8) ∧ ∀ k, k < 16 * d → I' 52 k = if to = 52 then va_cpy r (I 52) 0 at_ 8 k else I 52 k
theorem gl_trP_0 {I : Nat → Nat → Int32} {w m r : Nat → Int32} {a b d to at_ : Nat} (h5 : to ≠ 50) : gl_trP I (va_up (gl_wm I w m) to (va_cpy r (I to) 0 at_ 8)) a b d to at_ r := by
  refine ⟨fun c h1 h2 _ _ _ h4 => by rw [gl_up_ne h4, gl_wm_o h1 h2], fun i _ => by rw [gl_up_ne (Ne.symm h5), gl_wm_o (by decide) (by decide)], fun _ => gl_up_eq, fun k _ => ?_⟩
  by_cases h : to = 52
  · subst h; rw [if_pos rfl, gl_up_eq]
  · rw [if_neg h, gl_up_ne (Ne.symm h), gl_wm_o (by decide) (by decide)]
theorem gl_trP_z {I : Nat → Nat → Int32} {r : Nat → Int32} {a b d to at_ : Nat} (h5 : to ≠ 50) : gl_trP I (va_up I to (va_cpy r (I to) 0 at_ 8)) a b d to at_ r := by
  refine ⟨fun c _ _ _ _ _ h4 => gl_up_ne h4, fun i _ => by rw [gl_up_ne (Ne.symm h5)], fun _ => gl_up_eq, fun k _ => ?_⟩
  by_cases h : to = 52
  · subst h; rw [if_pos rfl, gl_up_eq]
  · rw [if_neg h, gl_up_ne (Ne.symm h)]
theorem gl_trP_s {I I0 I1 I2 : Nat → Nat → Int32} {w m ra rb : Nat → Int32} {a mid b d to at_ : Nat} (h9 : to ≠ 39) (h4 : to ≠ 40) (h5 : to ≠ 50) (h51 : to ≠ 51) (hm1 : a ≤ mid) (hm2 : mid ≤ b) (hf : gl_fq [50, 51] [] I I0) (h0z : to ≠ 0) (hout : ∀ i, i < a ∨ b ≤ i → I0 50 i = I 50 i) (h1 : gl_trP I0 I1 a mid (d + 1) 52 (16 * d) ra) (h2 : gl_trP I1 I2 mid b (d + 1) 52 (16 * d + 8) rb) :
    gl_trP I (va_up (gl_wm I2 w m) to (va_cpy (gl_join (fun t => I2 52 (16 * d + t)) (fun t => I2 52 (16 * d + 8 + t))) (I2 to) 0 at_ 8)) a b d to at_ (gl_join ra rb) := by
  obtain ⟨a1, a2, -, a3⟩ := h1
  obtain ⟨b1, b2, -, b3⟩ := h2
  have z : ∀ c, c ≠ 50 → c ≠ 51 → I0 c = I c := fun c c1 c2 => by
    by_cases hc : c = 0
    · subst hc; funext k; exact hf.2 k (by simp)
    · exact hf.1 c hc (by simp [c1, c2])
  have e : gl_join (fun t => I2 52 (16 * d + t)) (fun t => I2 52 (16 * d + 8 + t)) = gl_join ra rb := by
    refine gl_join_congr (fun t ht => ?_) (fun t ht => ?_)
    · show I2 52 (16 * d + t) = ra t
      rw [b3 _ (by omega), if_pos rfl, pk_cpy_out (by omega), a3 _ (by omega), if_pos rfl, pk_cpy_in (by omega) (by omega)]
      congr 1; omega
    · show I2 52 (16 * d + 8 + t) = rb t
      rw [b3 _ (by omega), if_pos rfl, pk_cpy_in (by omega) (by omega)]
      congr 1; omega
  have low : ∀ k, k < 16 * d → I2 52 k = I 52 k := fun k hk => by
    rw [b3 _ (by omega), if_pos rfl, pk_cpy_out (by omega), a3 _ (by omega), if_pos rfl, pk_cpy_out (by omega), z 52 (by decide) (by decide)]
  rw [e]
  refine ⟨fun c c1 c2 c3 c4 c5 c6 => by rw [gl_up_ne c6, gl_wm_o c1 c2, b1 c c1 c2 c3 c4 c5 c5, a1 c c1 c2 c3 c4 c5 c5, z c c3 c4], fun i hi => ?_, fun h => ?_, fun k hk => ?_⟩
  · rw [gl_up_ne (Ne.symm h5), gl_wm_o (by decide) (by decide), b2 i (by omega), a2 i (by omega)]
    exact hout i hi
  · rw [gl_up_eq, b1 to h9 h4 h5 h51 h h, a1 to h9 h4 h5 h51 h h, z to h5 h51]
  · by_cases h : to = 52
    · subst h
      rw [if_pos rfl, gl_up_eq]
      unfold va_cpy
      by_cases hq : at_ ≤ k ∧ k < at_ + 8
      · rw [if_pos hq, if_pos hq]
      · rw [if_neg hq, if_neg hq, low k hk]
    · rw [if_neg h, gl_up_ne (Ne.symm h), gl_wm_o (by decide) (by decide), low k hk]
theorem gl_flen {α : Type} (q : α → Bool) : ∀ (l : List α), (l.filter q).length + (l.filter fun x => !q x).length = l.length
  | [] => rfl
  | x :: l => by
    have ih := gl_flen q l
    cases hq : q x with
    | true => rw [List.filter_cons_of_pos hq, List.filter_cons_of_neg (by simp [hq]), List.length_cons, List.length_cons]; omega
    | false => rw [List.filter_cons_of_neg (by simp [hq]), List.filter_cons_of_pos (by simp [hq]), List.length_cons, List.length_cons]; omega
set_option maxHeartbeats 4000000 in
set_option maxRecDepth 100000 in
/-- at most one key -/
theorem ct_X9_tree1 {l_ : Launch} {δ : gl_Del} {I : Nat → Nat → Int32} {L : Nat → Nat → Int64} {B : Nat → Nat → Bool} {a b d to nt at_ : Nat} (ff : Nat) {l : List Nat} (h : Nat) (hh : ff + 5 ≤ h) (hl : gl_ra (I 50) a l) (hab : a + l.length = b) (hb : b ≤ 400) (hx : ∀ x ∈ l, x < 400) (hd : d + ff = 256) (hok : gl_tok (fun d x => gl_bit (fun t => I 49 (8 * x + t)) d) ff d l) (ht : gl_msh to = (0, nt)) (ht0 : to ≠ 0) (ht9 : to ≠ 39) (htm : to ≠ 40) (ht5 : to ≠ 50) (ht51 : to ≠ 51) (hat : at_ + 8 ≤ nt) (hnt : nt < 2 ^ 31) (h1 : l.length ≤ 1) : gl_Ct l_ δ yX9_tree (ws_ yX9_tree cX9_tree 7 none) (gl_rm h 0 0) 0 0 [.ref 0, .int (nI a), .int (nI b), .int (nI d), .ref to, .int (nI at_)] (gl_mL, I, L, B, gl_mR) (gl_Qv fun S => ∃ I', S = (gl_mL, I', L, B, gl_mR) ∧ gl_trP I I' a b d to at_ (gl_tr (fun x => gl_leaf (I 47 x) (I 48 x)) (fun d x => gl_bit (fun t => I 49 (8 * x + t)) d) ff d l)) := by
  match l, hl, hab, hx, hok, h1 with
  | [], hl, hab, hx, hok, h1 =>
    have hab : a = b := hab
    subst hab
    refine gl_of (by decide) (Nat.le_of_ble_eq_true rfl) rfl ?_
    intro κ C hQ hlκ hδκ hnL hini
    change gl_Cx κ RX9 _ _ _ at C
    have loopz : ∀ k j : Nat, j + k = 8 → gl_J κ 0 0 (gl_mL, va_up I to (va_cpy (fun _ => nI 0) (I to) 0 at_ j), L, B, gl_mR) 8 [some (.ref 0), some (.int (nI a)), some (.int (nI a)), some (.int (nI d)), some (.ref to), some (.int (nI at_)), some (.int (nI j))] [] := by
      intro k
      induction k with
      | zero =>
        intro j hj
        have hjN : j = 8 := by omega
        subst hjN
        refine j_iload C dX9_tree_8 rfl 10 rfl ?_
        refine j_bipush (v := nI 8) C dX9_tree_10 (by decide) 12 rfl ?_
        refine n_icmp_ge C 30 15 dX9_tree_12 (by decide) rfl (by omega) (by omega) (fun c_12 => ?_) (fun c_12 => ?_)
        · exact j_ret C hQ ⟨_, rfl, by rw [gl_tr_0]; exact gl_trP_z ht5⟩ (by omega) (by omega) dX9_tree_30
        · exact absurd c_12 (by omega)
      | succ k ih =>
        intro j hj
        refine j_iload C dX9_tree_8 rfl 10 rfl ?_
        refine j_bipush (v := nI 8) C dX9_tree_10 (by decide) 12 rfl ?_
        refine n_icmp_ge C 30 15 dX9_tree_12 (by decide) rfl (by omega) (by omega) (fun c_12 => ?_) (fun c_12 => ?_)
        · exact absurd c_12 (by omega)
        · refine j_aload C dX9_tree_15 rfl 17 rfl ?_
          refine j_iload C dX9_tree_17 rfl 19 rfl ?_
          refine j_iload C dX9_tree_19 rfl 21 rfl ?_
          refine n_iadd C dX9_tree_21 22 rfl ?_
          refine j_iconst (v := nI 0) C dX9_tree_22 (by decide) 23 rfl ?_
          refine j_iast C ht (by omega) hnt dX9_tree_23 24 rfl ?_
          refine n_iinc C dX9_tree_24 rfl (by rw [hnL]; decide) rfl 27 rfl ?_
          refine j_goto (tgt := 8) C dX9_tree_27 (by decide) ?_
          rw [gl_u2_up, gl_cpy_s (a := fun _ => nI 0)]
          exact ih (j + 1) (by omega)
    refine j_iload_n C dX9_tree_0 rfl 1 rfl ?_
    refine j_iload_n C dX9_tree_1 rfl 2 rfl ?_
    refine n_icmp_ne C 31 5 dX9_tree_2 (by decide) rfl (by omega) (by omega) (fun c_2 => ?_) (fun c_2 => ?_)
    · exact absurd rfl c_2
    · refine j_iconst (v := nI 0) C dX9_tree_5 (by decide) 6 rfl ?_
      refine j_istore C dX9_tree_6 (Nat.le_of_ble_eq_true rfl) (by rw [hnL]; decide) rfl 8 rfl ?_
      have := loopz 8 0 rfl
      rw [gl_cpy_0, gl_up_self] at this
      exact this
  | [x], hl, hab, hx, hok, h1 =>
    have hab : a + 1 = b := hab
    subst hab
    have hx0 : x < 400 := hx x List.mem_cons_self
    refine gl_of (by decide) (Nat.le_of_ble_eq_true rfl) rfl ?_
    intro κ C hQ hlκ hδκ hnL hini
    change gl_Cx κ RX9 _ _ _ at C
    refine j_iload_n C dX9_tree_0 rfl 1 rfl ?_
    refine j_iload_n C dX9_tree_1 rfl 2 rfl ?_
    refine n_icmp_ne C 31 5 dX9_tree_2 (by decide) rfl (by omega) (by omega) (fun c_2 => ?_) (fun c_2 => ?_)
    · refine j_iload_n C dX9_tree_31 rfl 32 rfl ?_
      refine j_iload_n C dX9_tree_32 rfl 33 rfl ?_
      refine n_isub C dX9_tree_33 (by omega) 34 rfl ?_
      rw [show a + 1 - a = 1 by omega]
      refine j_iconst (v := nI 1) C dX9_tree_34 (by decide) 35 rfl ?_
      refine n_icmp_ne C 73 38 dX9_tree_35 (by decide) rfl (by omega) (by omega) (fun c_35 => ?_) (fun c_35 => ?_)
      · exact absurd rfl c_35
      · refine j_aload_n C dX9_tree_38 rfl 39 rfl ?_
        refine j_aload_n C dX9_tree_39 rfl 40 rfl ?_
        refine gf_X9_151 C rfl rfl dX9_tree_40 43 rfl ?_
        refine j_aload_n C dX9_tree_43 rfl 44 rfl ?_
        refine gf_X9_160 C rfl rfl dX9_tree_44 47 rfl ?_
        refine j_iload_n C dX9_tree_47 rfl 48 rfl ?_
        refine j_iald C rfl (by omega) (by decide) dX9_tree_48 49 rfl ?_
        rw [hl.1]
        refine j_iald C rfl (by omega) (by decide) dX9_tree_49 50 rfl ?_
        refine j_aload_n C dX9_tree_50 rfl 51 rfl ?_
        refine gf_X9_154 C rfl rfl dX9_tree_51 54 rfl ?_
        refine j_aload_n C dX9_tree_54 rfl 55 rfl ?_
        refine gf_X9_160 C rfl rfl dX9_tree_55 58 rfl ?_
        refine j_iload_n C dX9_tree_58 rfl 59 rfl ?_
        refine j_iald C rfl (by omega) (by decide) dX9_tree_59 60 rfl ?_
        rw [hl.1]
        refine j_iald C rfl (by omega) (by decide) dX9_tree_60 61 rfl ?_
        refine j_cv C (cs_X9_241 C (ct_X9_leaf (h - 1) (by omega)) rfl rfl (by omega) (by omega) (by omega) rfl (Nat.le_of_ble_eq_true rfl) dX9_tree_61) 64 rfl ?_
        rintro _ ⟨w, rfl⟩
        refine j_aload_n C dX9_tree_64 rfl 65 rfl ?_
        refine j_aload C dX9_tree_65 rfl 67 rfl ?_
        refine j_iload C dX9_tree_67 rfl 69 rfl ?_
        refine j_cv C (cs_X9_192 C (ct_X9_toRow (h - 1) (by omega) ht htm hat hnt) rfl rfl (by omega) (by omega) (by omega) rfl (Nat.le_of_ble_eq_true rfl) dX9_tree_69) 72 rfl ?_
        rintro _ rfl
        rw [gl_wm_40, gl_wm_o ht9 htm]
        exact j_ret C hQ ⟨_, rfl, by rw [gl_tr_1]; exact gl_trP_0 ht5⟩ (by omega) (by omega) dX9_tree_72
    · exact absurd c_2 (by omega)
  | x :: y :: l, _, _, _, _, h1 => exact absurd h1 (by simp)
set_option maxHeartbeats 4000000 in
set_option maxRecDepth 100000 in
theorem ct_X9_tree (ff : Nat) : ∀ {l_ : Launch} {δ : gl_Del} {I : Nat → Nat → Int32} {L : Nat → Nat → Int64} {B : Nat → Nat → Bool} {a b d to nt at_ : Nat} {l : List Nat} (h : Nat) (hh : ff + 5 ≤ h) (hl : gl_ra (I 50) a l) (hab : a + l.length = b) (hb : b ≤ 400) (hx : ∀ x ∈ l, x < 400) (hd : d + ff = 256) (hok : gl_tok (fun d x => gl_bit (fun t => I 49 (8 * x + t)) d) ff d l) (ht : gl_msh to = (0, nt)) (ht0 : to ≠ 0) (ht9 : to ≠ 39) (htm : to ≠ 40) (ht5 : to ≠ 50) (ht51 : to ≠ 51) (hat : at_ + 8 ≤ nt) (hnt : nt < 2 ^ 31), gl_Ct l_ δ yX9_tree (ws_ yX9_tree cX9_tree 7 none) (gl_rm h 0 0) 0 0 [.ref 0, .int (nI a), .int (nI b), .int (nI d), .ref to, .int (nI at_)] (gl_mL, I, L, B, gl_mR) (gl_Qv fun S => ∃ I', S = (gl_mL, I', L, B, gl_mR) ∧ gl_trP I I' a b d to at_ (gl_tr (fun x => gl_leaf (I 47 x) (I 48 x)) (fun d x => gl_bit (fun t => I 49 (8 * x + t)) d) ff d l)) := by
  induction ff with
  | zero =>
    intro l_ δ I L B a b d to nt at_ l h hh hl hab hb hx hd hok ht ht0 ht9 htm ht5 ht51 hat hnt
    exact ct_X9_tree1 0 h hh hl hab hb hx hd hok ht ht0 ht9 htm ht5 ht51 hat hnt hok
  | succ ff ih =>
    intro l_ δ I L B a b d to nt at_ l h hh hl hab hb hx hd hok ht ht0 ht9 htm ht5 ht51 hat hnt
    rcases hok with hok1 | hok2
    · exact ct_X9_tree1 (ff + 1) h hh hl hab hb hx hd (Or.inl hok1) ht ht0 ht9 htm ht5 ht51 hat hnt hok1
    rcases Nat.lt_or_ge l.length 2 with hl1 | hl2
    · exact ct_X9_tree1 (ff + 1) h hh hl hab hb hx hd (Or.inr hok2) ht ht0 ht9 htm ht5 ht51 hat hnt (by omega)
    · refine gl_of (by decide) (Nat.le_of_ble_eq_true rfl) rfl ?_
      intro κ C hQ hlκ hδκ hnL hini
      change gl_Cx κ RX9 _ _ _ at C
      refine j_iload_n C dX9_tree_0 rfl 1 rfl ?_
      refine j_iload_n C dX9_tree_1 rfl 2 rfl ?_
      refine n_icmp_ne C 31 5 dX9_tree_2 (by decide) rfl (by omega) (by omega) (fun c_2 => ?_) (fun c_2 => ?_)
      · refine j_iload_n C dX9_tree_31 rfl 32 rfl ?_
        refine j_iload_n C dX9_tree_32 rfl 33 rfl ?_
        refine n_isub C dX9_tree_33 (by omega) 34 rfl ?_
        refine j_iconst (v := nI 1) C dX9_tree_34 (by decide) 35 rfl ?_
        refine n_icmp_ne C 73 38 dX9_tree_35 (by decide) rfl (by omega) (by omega) (fun c_35 => ?_) (fun c_35 => ?_)
        · refine j_aload_n C dX9_tree_73 rfl 74 rfl ?_
          refine j_iload_n C dX9_tree_74 rfl 75 rfl ?_
          refine j_iload_n C dX9_tree_75 rfl 76 rfl ?_
          refine j_iload_n C dX9_tree_76 rfl 77 rfl ?_
          refine j_ci C (cs_X9_245 C (ct_X9_part (l0 := l) (h - 1) (by omega) hl hab hb hx (by omega)) rfl rfl (by omega) (by omega) (by omega) rfl (Nat.le_of_ble_eq_true rfl) dX9_tree_77) 80 rfl ?_
          rintro _ _ ⟨rfl, I0, rfl, hf0, hra, hout⟩
          have g47 : I0 47 = I 47 := hf0.1 47 (by decide) (by decide)
          have g48 : I0 48 = I 48 := hf0.1 48 (by decide) (by decide)
          have g49 : I0 49 = I 49 := hf0.1 49 (by decide) (by decide)
          have hra1 := (gl_ra_app.mp hra).1
          have hra2 := (gl_ra_app.mp hra).2
          have hlen : (l.filter (fun x => !gl_bit (fun t => I 49 (8 * x + t)) d)).length + (l.filter (fun x => gl_bit (fun t => I 49 (8 * x + t)) d)).length = l.length := by rw [Nat.add_comm]; exact gl_flen _ l
          have hok1 := hok2.1
          have hok3 := hok2.2
          refine j_istore C dX9_tree_80 (Nat.le_of_ble_eq_true rfl) (by rw [hnL]; decide) rfl 82 rfl ?_
          refine j_aload_n C dX9_tree_82 rfl 83 rfl ?_
          refine j_iload_n C dX9_tree_83 rfl 84 rfl ?_
          refine j_iload C dX9_tree_84 rfl 86 rfl ?_
          refine j_iload_n C dX9_tree_86 rfl 87 rfl ?_
          refine j_iconst (v := nI 1) C dX9_tree_87 (by decide) 88 rfl ?_
          refine n_iadd C dX9_tree_88 89 rfl ?_
          refine j_aload_n C dX9_tree_89 rfl 90 rfl ?_
          refine gf_X9_166 C rfl rfl dX9_tree_90 93 rfl ?_
          refine j_bipush (v := nI 16) C dX9_tree_93 (by decide) 95 rfl ?_
          refine j_iload_n C dX9_tree_95 rfl 96 rfl ?_
          refine n_imul C dX9_tree_96 97 rfl ?_
          refine j_cv C (cs_X9_249 C (ih (I := I0) (to := 52) (nt := 4160) (h - 1) (by omega) hra1 rfl (by omega) (fun x hq => hx x (List.mem_filter.mp hq).1) (by omega) (by rw [g49]; exact hok1) rfl (by decide) (by decide) (by decide) (by decide) (by decide) (by omega) (by decide)) rfl rfl (by omega) (by omega) (by omega) rfl (Nat.le_of_ble_eq_true rfl) dX9_tree_97) 100 rfl ?_
          rintro _ ⟨I1, rfl, h1⟩
          rw [g47, g48, g49] at h1
          have k47 : I1 47 = I 47 := (h1.1 47 (by decide) (by decide) (by decide) (by decide) (by decide) (by decide)).trans g47
          have k48 : I1 48 = I 48 := (h1.1 48 (by decide) (by decide) (by decide) (by decide) (by decide) (by decide)).trans g48
          have k49 : I1 49 = I 49 := (h1.1 49 (by decide) (by decide) (by decide) (by decide) (by decide) (by decide)).trans g49
          refine j_aload_n C dX9_tree_100 rfl 101 rfl ?_
          refine j_iload C dX9_tree_101 rfl 103 rfl ?_
          refine j_iload_n C dX9_tree_103 rfl 104 rfl ?_
          refine j_iload_n C dX9_tree_104 rfl 105 rfl ?_
          refine j_iconst (v := nI 1) C dX9_tree_105 (by decide) 106 rfl ?_
          refine n_iadd C dX9_tree_106 107 rfl ?_
          refine j_aload_n C dX9_tree_107 rfl 108 rfl ?_
          refine gf_X9_166 C rfl rfl dX9_tree_108 111 rfl ?_
          refine j_bipush (v := nI 16) C dX9_tree_111 (by decide) 113 rfl ?_
          refine j_iload_n C dX9_tree_113 rfl 114 rfl ?_
          refine n_imul C dX9_tree_114 115 rfl ?_
          refine j_bipush (v := nI 8) C dX9_tree_115 (by decide) 117 rfl ?_
          refine n_iadd C dX9_tree_117 118 rfl ?_
          refine j_cv C (cs_X9_249 C (ih (I := I1) (to := 52) (nt := 4160) (h - 1) (by omega) (gl_ra_same hra2 (fun i h3 h4 => h1.2.1 i (by omega))) (by omega) (by omega) (fun x hq => hx x (List.mem_filter.mp hq).1) (by omega) (by rw [k49]; exact hok3) rfl (by decide) (by decide) (by decide) (by decide) (by decide) (by omega) (by decide)) rfl rfl (by omega) (by omega) (by omega) rfl (Nat.le_of_ble_eq_true rfl) dX9_tree_118) 121 rfl ?_
          rintro _ ⟨I2, rfl, h2⟩
          rw [k47, k48, k49] at h2
          refine j_aload_n C dX9_tree_121 rfl 122 rfl ?_
          refine j_aload_n C dX9_tree_122 rfl 123 rfl ?_
          refine gf_X9_166 C rfl rfl dX9_tree_123 126 rfl ?_
          refine j_bipush (v := nI 16) C dX9_tree_126 (by decide) 128 rfl ?_
          refine j_iload_n C dX9_tree_128 rfl 129 rfl ?_
          refine n_imul C dX9_tree_129 130 rfl ?_
          refine j_aload_n C dX9_tree_130 rfl 131 rfl ?_
          refine gf_X9_166 C rfl rfl dX9_tree_131 134 rfl ?_
          refine j_bipush (v := nI 16) C dX9_tree_134 (by decide) 136 rfl ?_
          refine j_iload_n C dX9_tree_136 rfl 137 rfl ?_
          refine n_imul C dX9_tree_137 138 rfl ?_
          refine j_bipush (v := nI 8) C dX9_tree_138 (by decide) 140 rfl ?_
          refine n_iadd C dX9_tree_140 141 rfl ?_
          refine j_aload C dX9_tree_141 rfl 143 rfl ?_
          refine j_iload C dX9_tree_143 rfl 145 rfl ?_
          refine j_cv C (cs_X9_204 C (ct_X9_join (I := I2) (nx := 4160) (ny := 4160) (h - 1) (by omega) rfl (by decide) (by decide) (by omega) (by decide) rfl (by decide) (by decide) (by omega) (by decide) ht ht9 htm hat hnt) rfl rfl (by omega) (by omega) (by omega) rfl (Nat.le_of_ble_eq_true rfl) dX9_tree_145) 148 rfl ?_
          rintro _ ⟨w, m, rfl⟩
          exact j_ret C hQ ⟨_, rfl, by rw [gl_tr_s hl2]; exact gl_trP_s ht9 htm ht5 ht51 (by omega) (by omega) hf0 ht0 hout h1 h2⟩ (by omega) (by omega) dX9_tree_148
        · exact absurd c_35 (by omega)
      · exact absurd c_2 (by omega)
