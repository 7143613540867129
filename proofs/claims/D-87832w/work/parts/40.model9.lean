/-! MODULE Model, heads: head (by gen40.py) -/
set_option maxRecDepth 100000
theorem gl_ra_range {f : Nat → Int32} {n : Nat} (h : ∀ i, i < n → f i = nI i) : gl_ra f 0 (List.range n) := by
  have key : ∀ (m a : Nat), a + m ≤ n → gl_ra f a (List.range' a m) := by
    intro m
    induction m with
    | zero => intro a _; exact trivial
    | succ m ih => intro a ha; exact ⟨h a (by omega), ih (a + 1) (by omega)⟩
  rw [List.range_eq_range']
  exact key n 0 (by omega)
/-- a map's tree -/
def gl_mtree (m : gl_Mp) : Nat → Int32 := gl_tr (fun q => gl_leaf (q : Int32 × Nat).1 (nI q.2)) (fun d q => gl_bit (gl_way (q : Int32 × Nat).1) d) 256 0 m
theorem gl_at_map (m : gl_Mp) : (List.range m.length).map (gl_at m) = m := by
  refine List.ext_getElem? fun i => ?_
  rw [List.getElem?_map]
  rcases Nat.lt_or_ge i m.length with h | h
  · rw [List.getElem?_range h, Option.map_some]
    unfold gl_at
    rw [List.getD_eq_getElem?_getD, List.getElem?_eq_getElem h]
    rfl
  · rw [List.getElem?_eq_none h, List.getElem?_eq_none (by simp; exact h)]
    rfl
theorem gl_MP_tree {I : Nat → Nat → Int32} {m : gl_Mp} (h : gl_MP I m) : gl_tr (fun x => gl_leaf (I 47 x) (I 48 x)) (fun d x => gl_bit (fun t => I 49 (8 * x + t)) d) 256 0 (List.range m.length) = gl_mtree m := by
  unfold gl_mtree
  conv => rhs; rw [← gl_at_map m, gl_tr_map]
  refine gl_tr_congr 256 0 _ (Nat.le_refl _) (fun x hx => ?_) (fun x hx d hd => ?_)
  · have := h.1.2 x (List.mem_range.mp hx)
    rw [this.1, this.2]
  · exact gl_bit_congr hd (h.2 x (List.mem_range.mp hx)).2
theorem gl_nd_pw {m : gl_Mp} (h : gl_nd m) : m.Pairwise (fun x y => x.1 ≠ y.1) := by
  rw [List.pairwise_iff_getElem]
  intro i j hi hj hij e
  have k : ∀ a (ha : a < m.length), gl_at m a = m[a] := fun a ha => by
    unfold gl_at
    rw [List.getD_eq_getElem?_getD, List.getElem?_eq_getElem ha]; rfl
  have := h i j hi hj (by rw [k i hi, k j hj]; exact e)
  omega
theorem gl_MP_tok {I : Nat → Nat → Int32} {m : gl_Mp} (h : gl_MP I m) (hn : gl_nd m) : gl_tok (fun d x => gl_bit (fun t => I 49 (8 * x + t)) d) 256 0 (List.range m.length) := by
  have h1 := gl_tok_keys (gl_nd_pw hn)
  rw [← gl_at_map m, gl_tok_map] at h1
  exact gl_tok_congr 256 0 _ (Nat.le_refl _) (fun x hx d hd => (gl_bit_congr hd (h.2 x (List.mem_range.mp hx)).2).symm) h1
theorem gl_mark_congr {kp n : Int32} {t t' u u' : Nat → Int32} (h1 : ∀ k, k < 8 → t k = t' k) (h2 : ∀ k, k < 8 → u k = u' k) : gl_mark kp n t u = gl_mark kp n t' u' := by
  refine gl_fin_congr fun k hk => ?_
  unfold gl_kw
  by_cases h : k < 4
  · rw [if_pos h, if_pos h]
  · rw [if_neg h, if_neg h]
    by_cases h3 : k < 12
    · rw [if_pos h3, if_pos h3, h1 _ (by omega)]
    · rw [if_neg h3, if_neg h3, h2 _ (by omega)]
/-- a head's row -/
def gl_hdP (f : Nat → Int32) (n lg kp x3 : Int32) (t u : Nat → Int32) : Prop := f 0 = n ∧ f 1 = lg ∧ f 2 = kp ∧ f 3 = x3 ∧ (∀ k, k < 8 → f (4 + k) = t k) ∧ (∀ k, k < 8 → f (12 + k) = u k) ∧ ∀ k, k < 8 → f (20 + k) = gl_mark kp n t u k
theorem gl_hdP_of {f : Nat → Int32} {n lg kp : Int32} {t u mk : Nat → Int32} (hm : gl_mark kp n (fun k => va_cpy u (va_cpy t (va_up (va_up (va_up f 0 n) 1 lg) 2 kp) 0 4 8) 0 12 8 (4 + k)) (fun k => va_cpy u (va_cpy t (va_up (va_up (va_up f 0 n) 1 lg) 2 kp) 0 4 8) 0 12 8 (12 + k)) = mk) :
    gl_hdP (va_cpy mk (va_cpy u (va_cpy t (va_up (va_up (va_up f 0 n) 1 lg) 2 kp) 0 4 8) 0 12 8) 0 20 8) n lg kp (f 3) t u := by
  have e1 : ∀ k, k < 8 → va_cpy u (va_cpy t (va_up (va_up (va_up f 0 n) 1 lg) 2 kp) 0 4 8) 0 12 8 (4 + k) = t k := fun k hk => by
    rw [pk_cpy_out (by omega), pk_cpy_in (by omega) (by omega)]; congr 1; omega
  have e2 : ∀ k, k < 8 → va_cpy u (va_cpy t (va_up (va_up (va_up f 0 n) 1 lg) 2 kp) 0 4 8) 0 12 8 (12 + k) = u k := fun k hk => by
    rw [pk_cpy_in (by omega) (by omega)]; congr 1; omega
  rw [gl_mark_congr e1 e2] at hm
  subst hm
  refine ⟨?_, ?_, ?_, ?_, fun k hk => ?_, fun k hk => ?_, fun k hk => ?_⟩
  · rw [pk_cpy_out (by omega), pk_cpy_out (by omega), pk_cpy_out (by omega)]; rfl
  · rw [pk_cpy_out (by omega), pk_cpy_out (by omega), pk_cpy_out (by omega)]; rfl
  · rw [pk_cpy_out (by omega), pk_cpy_out (by omega), pk_cpy_out (by omega)]; rfl
  · rw [pk_cpy_out (by omega), pk_cpy_out (by omega), pk_cpy_out (by omega)]; rfl
  · rw [pk_cpy_out (by omega)]; exact e1 k hk
  · rw [pk_cpy_out (by omega)]; exact e2 k hk
  · rw [pk_cpy_in (by omega) (by omega)]; congr 1; omega
/-- the sums of a log's first n entries -/
def gl_ltop (K : Nat → Int32) (V : Nat → Int64) (n : Nat) : Nat → Int32 := gl_top (gl_ll (fun a e => gl_bs K V e a) n n 0 [])
set_option maxHeartbeats 4000000 in
set_option maxRecDepth 100000 in
theorem ct_X9_head0 {l : Launch} {δ : gl_Del} {I : Nat → Nat → Int32} {L : Nat → Nat → Int64} {B : Nat → Nat → Bool} {lg n wn : Nat} {sn : Nat → Nat} (h : Nat) (hh : 270 ≤ h) (hlg : lg < 6) (hn : n ≤ 400) (hwn : I 1 (4 * lg + 2) + I 1 (4 * lg + 3) = nI wn) (hwb : wn ≤ 100) (hs : ∀ w, w < wn → I 7 (100 * lg + w) = nI (sn w)) (hsb : ∀ w, w < wn → sn w ≤ 400) : gl_Ct l δ yX9_head_2 (ws_ yX9_head_2 cX9_head_2 5 none) (gl_rm h 0 0) 0 0 [.ref 0, .int (nI lg), .int (nI n), .ref 53, .int (nI 0)] (gl_mL, I, L, B, gl_mR) (gl_Qv fun S => ∃ I', S = (gl_mL, I', L, B, gl_mR) ∧ gl_fq [39, 40, 41, 42, 43, 44, 45, 46, 47, 48, 49, 50, 51, 52, 53] [49, 57] I I' ∧ gl_hdP (I' 53) (nI n) (nI lg) (I 1 (4 * lg)) (I 53 3) (gl_ltop (fun i => I 2 (400 * lg + i)) (fun i => L 3 (400 * lg + i)) n) (gl_mtree (gl_map (fun i => gl_cn (fun t => I 6 (100 * lg + t)) sn (fun t => B 8 (100 * lg + t)) wn n i (I 2 (400 * lg + i))) (fun i => I 2 (400 * lg + i)) n))) := by
  refine gl_of (by decide) (Nat.le_of_ble_eq_true rfl) rfl ?_
  intro κ C hQ hlκ hδκ hnL hini
  change gl_Cx κ RX9 _ _ _ at C
  refine j_aload_n C dX9_head_2_0 rfl 1 rfl ?_
  refine j_iload C dX9_head_2_1 rfl 3 rfl ?_
  refine j_iload_n C dX9_head_2_3 rfl 4 rfl ?_
  refine j_iast C rfl (by omega) (by decide) dX9_head_2_4 5 rfl ?_
  rw [gl_u2]
  refine j_aload_n C dX9_head_2_5 rfl 6 rfl ?_
  refine j_iload C dX9_head_2_6 rfl 8 rfl ?_
  refine j_iconst (v := nI 1) C dX9_head_2_8 (by decide) 9 rfl ?_
  refine n_iadd C dX9_head_2_9 10 rfl ?_
  refine j_iload_n C dX9_head_2_10 rfl 11 rfl ?_
  refine j_iast C rfl (by omega) (by decide) dX9_head_2_11 12 rfl ?_
  rw [gl_u2_up]
  refine j_aload_n C dX9_head_2_12 rfl 13 rfl ?_
  refine j_iload C dX9_head_2_13 rfl 15 rfl ?_
  refine j_iconst (v := nI 2) C dX9_head_2_15 (by decide) 16 rfl ?_
  refine n_iadd C dX9_head_2_16 17 rfl ?_
  refine j_aload_n C dX9_head_2_17 rfl 18 rfl ?_
  refine gf_X9_9 C rfl rfl dX9_head_2_18 21 rfl ?_
  refine j_iconst (v := nI 4) C dX9_head_2_21 (by decide) 22 rfl ?_
  refine j_iload_n C dX9_head_2_22 rfl 23 rfl ?_
  refine n_imul C dX9_head_2_23 24 rfl ?_
  refine j_iald C rfl (by omega) (by decide) dX9_head_2_24 25 rfl ?_
  rw [gl_up_ne (show (1 : Nat) ≠ 53 by decide)]
  refine j_iast C rfl (by omega) (by decide) dX9_head_2_25 26 rfl ?_
  rw [gl_u2_up]
  refine j_aload_n C dX9_head_2_26 rfl 27 rfl ?_
  refine j_iconst (v := nI 0) C dX9_head_2_27 (by decide) 28 rfl ?_
  refine pf_X9_208 C rfl dX9_head_2_28 31 rfl ?_
  refine j_aload_n C dX9_head_2_31 rfl 32 rfl ?_
  refine j_iload_n C dX9_head_2_32 rfl 33 rfl ?_
  refine j_iconst (v := nI 0) C dX9_head_2_33 (by decide) 34 rfl ?_
  refine j_iload_n C dX9_head_2_34 rfl 35 rfl ?_
  refine j_cv C (cs_X9_254 C (ct_X9_layLog (p0 := []) (lg := lg) (a0 := 0) (b := n) (h - 1) (by omega) hlg ⟨by rw [gl_u2_eq, gl_up_eq]; rfl, trivial⟩ rfl trivial (Nat.zero_le _) hn) rfl rfl (by omega) (by omega) (by omega) rfl (Nat.le_of_ble_eq_true rfl) dX9_head_2_35) 38 rfl ?_
  rintro _ ⟨I2, rfl, f2, p2⟩
  have q2 := (((gl_fq.rf (X := [39, 40, 41, 42, 43, 44, 45, 46, 47, 48, 49, 50, 51, 52, 53]) (Y := [49, 57]) (I := I)).up (c := 53) (r := va_up (va_up (va_up (I 53) 0 (nI n)) 1 (nI lg)) 2 (I 1 (4 * lg))) (by decide) (by decide)).sc (k := 49) (v := nI 0) (by decide)).tr (f2.mo (by decide) (by decide))
  have r2 : I2 53 = va_up (va_up (va_up (I 53) 0 (nI n)) 1 (nI lg)) 2 (I 1 (4 * lg)) := by rw [f2.1 53 (by decide) (by decide), gl_u2_ne (show (53 : Nat) ≠ 0 by decide), gl_up_eq]
  rw [gl_u2_ne (show (2 : Nat) ≠ 0 by decide), gl_up_ne (show (2 : Nat) ≠ 53 by decide), Nat.sub_zero] at p2
  have sz2 := gl_ll_inv (f := fun a e => gl_bs (fun i => I 2 (400 * lg + i)) (fun i => L 3 (400 * lg + i)) e a) (b := n) n 0 [] (by omega) (Nat.zero_le _) rfl trivial
  have ln2 := gl_inc_len sz2.2 (by decide) (by omega)
  refine j_aload_n C dX9_head_2_38 rfl 39 rfl ?_
  refine j_aload_n C dX9_head_2_39 rfl 40 rfl ?_
  refine j_iload C dX9_head_2_40 rfl 42 rfl ?_
  refine j_iconst (v := nI 4) C dX9_head_2_42 (by decide) 43 rfl ?_
  refine n_iadd C dX9_head_2_43 44 rfl ?_
  refine j_cv C (cs_X9_258 C (ct_X9_top (I := I2) (to := 53) (nt := 28) (at_ := 0 + 4) (h - 1) (by omega) p2 (by omega) rfl (by decide) (by decide) (by decide) (by decide) (by decide) (by decide) (by decide)) rfl rfl (by omega) (by omega) (by omega) rfl (Nat.le_of_ble_eq_true rfl) dX9_head_2_44) 47 rfl ?_
  rintro _ ⟨I3, rfl, f3, r3⟩
  rw [r2] at r3
  have q3 := q2.tr (f3.mo (by decide) (by decide))
  refine j_aload_n C dX9_head_2_47 rfl 48 rfl ?_
  refine j_iload_n C dX9_head_2_48 rfl 49 rfl ?_
  refine j_iload_n C dX9_head_2_49 rfl 50 rfl ?_
  refine j_cv C (cs_X9_260 C (ct_X9_map (I := I3) (lg := lg) (n := n) (wn := wn) (sn := sn) (h - 1) (by omega) hlg hn (by rw [q3.1 1 (by decide) (by decide)]; exact hwn) hwb (fun w hw => by rw [q3.1 7 (by decide) (by decide)]; exact hs w hw) hsb) rfl rfl (by omega) (by omega) (by omega) rfl (Nat.le_of_ble_eq_true rfl) dX9_head_2_50) 53 rfl ?_
  rintro _ ⟨I4, rfl, f4, m4⟩
  rw [q3.1 6 (by decide) (by decide), q3.1 2 (by decide) (by decide)] at m4
  have q4 := q3.tr (f4.mo (by decide) (by decide))
  have r4 : I4 53 = I3 53 := f4.1 53 (by decide) (by decide)
  have nd4 : gl_nd (gl_map (fun i => gl_cn (fun t => I 6 (100 * lg + t)) sn (fun t => B 8 (100 * lg + t)) wn n i (I 2 (400 * lg + i))) (fun i => I 2 (400 * lg + i)) n) := gl_nd_map n
  have ml4 : (gl_map (fun i => gl_cn (fun t => I 6 (100 * lg + t)) sn (fun t => B 8 (100 * lg + t)) wn n i (I 2 (400 * lg + i))) (fun i => I 2 (400 * lg + i)) n).length ≤ n := gl_map_len n
  refine j_aload_n C dX9_head_2_53 rfl 54 rfl ?_
  refine j_iconst (v := nI 0) C dX9_head_2_54 (by decide) 55 rfl ?_
  refine j_aload_n C dX9_head_2_55 rfl 56 rfl ?_
  refine gf_X9_223 C rfl dX9_head_2_56 59 rfl ?_
  rw [m4.1.1]
  refine j_iconst (v := nI 0) C dX9_head_2_59 (by decide) 60 rfl ?_
  refine j_aload_n C dX9_head_2_60 rfl 61 rfl ?_
  refine j_iload C dX9_head_2_61 rfl 63 rfl ?_
  refine j_bipush (v := nI 12) C dX9_head_2_63 (by decide) 65 rfl ?_
  refine n_iadd C dX9_head_2_65 66 rfl ?_
  refine j_cv C (cs_X9_249 C (ct_X9_tree 256 (I := I4) (a := 0) (b := (gl_map (fun i => gl_cn (fun t => I 6 (100 * lg + t)) sn (fun t => B 8 (100 * lg + t)) wn n i (I 2 (400 * lg + i))) (fun i => I 2 (400 * lg + i)) n).length) (d := 0) (to := 53) (nt := 28) (at_ := 0 + 12) (l := List.range (gl_map (fun i => gl_cn (fun t => I 6 (100 * lg + t)) sn (fun t => B 8 (100 * lg + t)) wn n i (I 2 (400 * lg + i))) (fun i => I 2 (400 * lg + i)) n).length) (h - 1) (by omega) (gl_ra_range (fun i hi => (m4.2 i hi).1)) (by rw [List.length_range]; omega) (by omega) (fun x hx => by have := List.mem_range.mp hx; omega) rfl (gl_MP_tok m4 nd4) rfl (by decide) (by decide) (by decide) (by decide) (by decide) (by decide) (by decide)) rfl rfl (by omega) (by omega) (by omega) rfl (Nat.le_of_ble_eq_true rfl) dX9_head_2_66) 69 rfl ?_
  rintro _ ⟨I5, rfl, t5⟩
  rw [gl_MP_tree m4] at t5
  have r5 := t5.2.2.1 (by decide)
  rw [r4, r3] at r5
  have g1 : I5 1 = I 1 := (t5.1 1 (by decide) (by decide) (by decide) (by decide) (by decide) (by decide)).trans (q4.1 1 (by decide) (by decide))
  have q5 : gl_fq [39, 40, 41, 42, 43, 44, 45, 46, 47, 48, 49, 50, 51, 52, 53] [49, 57] I I5 := q4.tr ⟨fun c h0 hx => by simp only [List.mem_cons, List.not_mem_nil, or_false, not_or] at hx; exact t5.1 c (by omega) (by omega) (by omega) (by omega) (by omega) (by omega), fun k _ => by rw [t5.1 0 (by decide) (by decide) (by decide) (by decide) (by decide) (by decide)]⟩
  refine j_aload_n C dX9_head_2_69 rfl 70 rfl ?_
  refine j_aload_n C dX9_head_2_70 rfl 71 rfl ?_
  refine gf_X9_9 C rfl rfl dX9_head_2_71 74 rfl ?_
  refine j_iconst (v := nI 4) C dX9_head_2_74 (by decide) 75 rfl ?_
  refine j_iload_n C dX9_head_2_75 rfl 76 rfl ?_
  refine n_imul C dX9_head_2_76 77 rfl ?_
  refine j_iald C rfl (by omega) (by decide) dX9_head_2_77 78 rfl ?_
  rw [g1]
  refine j_iload_n C dX9_head_2_78 rfl 79 rfl ?_
  refine j_aload_n C dX9_head_2_79 rfl 80 rfl ?_
  refine j_iload C dX9_head_2_80 rfl 82 rfl ?_
  refine j_iconst (v := nI 4) C dX9_head_2_82 (by decide) 83 rfl ?_
  refine n_iadd C dX9_head_2_83 84 rfl ?_
  refine j_iload C dX9_head_2_84 rfl 86 rfl ?_
  refine j_bipush (v := nI 12) C dX9_head_2_86 (by decide) 88 rfl ?_
  refine n_iadd C dX9_head_2_88 89 rfl ?_
  refine j_cv C (cs_X9_263 C (ct_X9_mark (I := I5) (n := nI n) (x := 53) (nx := 28) (p_ := 0 + 4) (q_ := 0 + 12) (h - 1) (by omega) rfl (by decide) (by decide) (by decide) (by decide)) rfl rfl (by omega) (by omega) (by omega) rfl (Nat.le_of_ble_eq_true rfl) dX9_head_2_89) 92 rfl ?_
  rintro _ ⟨w, rfl⟩
  refine j_aload_n C dX9_head_2_92 rfl 93 rfl ?_
  refine j_aload_n C dX9_head_2_93 rfl 94 rfl ?_
  refine j_iload C dX9_head_2_94 rfl 96 rfl ?_
  refine j_bipush (v := nI 20) C dX9_head_2_96 (by decide) 98 rfl ?_
  refine n_iadd C dX9_head_2_98 99 rfl ?_
  refine j_cv C (cs_X9_192 C (ct_X9_toRow (to := 53) (nt := 28) (at_ := 0 + 20) (h - 1) (by omega) rfl (by decide) (by decide) (by decide)) rfl rfl (by omega) (by omega) (by omega) rfl (Nat.le_of_ble_eq_true rfl) dX9_head_2_99) 102 rfl ?_
  rintro _ rfl
  rw [gl_wm_40, gl_wm_o (show (53 : Nat) ≠ 39 by decide) (by decide)]
  exact j_ret C hQ ⟨_, rfl, (q5.wm (by decide) (by decide)).up (by decide) (by decide), by rw [gl_up_eq, r5]; exact gl_hdP_of rfl⟩ (by omega) (by omega) dX9_head_2_102
