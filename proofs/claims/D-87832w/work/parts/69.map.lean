/-! MODULE GlassLog, maps: compare, put, of (by gen69.py) -/
set_option maxRecDepth 100000
/-- a key's way as a number -/
def gl_wv (ky : Int32) : Nat := gl_vl (gl_way ky) 8
theorem gl_wv_inj {a b : Int32} (h : gl_wv a = gl_wv b) : a = b := gl_way_inj (gl_vl_inj h)
/-- the map's rows hold a map -/
def gl_gm (I : Nat → Nat → Int32) (m : gl_Mp) : Prop := I 695 6 = nI m.length ∧ ∀ i, i < m.length → I 696 i = (gl_at m i).1 ∧ I 697 i = nI (gl_at m i).2 ∧ ∀ t, t < 8 → I 698 (i * 8 + t) = gl_way (gl_at m i).1 t
def gl_srt (m : gl_Mp) : Prop := ∀ i j, i < j → j < m.length → gl_wv (gl_at m i).1 < gl_wv (gl_at m j).1
theorem gl_gm_eq {I J : Nat → Nat → Int32} {m : gl_Mp} (h : gl_gm I m) (h0 : J 695 6 = I 695 6) (h1 : J 696 = I 696) (h2 : J 697 = I 697) (h3 : J 698 = I 698) : gl_gm J m := by
  unfold gl_gm
  rw [h0, h1, h2, h3]
  exact h
theorem gl_getD_in {α : Type} {l : List α} {i : Nat} {d : α} (h : i < l.length) : l.getD i d = l[i] := by rw [List.getD_eq_getElem?_getD, List.getElem?_eq_getElem h]; rfl
theorem gl_at_mem {m : gl_Mp} {q : Int32 × Nat} : q ∈ m ↔ ∃ i, i < m.length ∧ gl_at m i = q := by
  constructor
  · intro h
    obtain ⟨i, hi, e⟩ := List.mem_iff_getElem.mp h
    exact ⟨i, hi, by unfold gl_at; rw [gl_getD_in hi, e]⟩
  · rintro ⟨i, hi, e⟩
    unfold gl_at at e
    rw [gl_getD_in hi] at e
    rw [← e]
    exact List.getElem_mem hi
/-- a pair put at a place -/
def gl_ins (m : gl_Mp) (p : Nat) (q : Int32 × Nat) : gl_Mp := m.take p ++ q :: m.drop p
theorem gl_ins_len {m : gl_Mp} {p : Nat} {q : Int32 × Nat} (hp : p ≤ m.length) : (gl_ins m p q).length = m.length + 1 := by
  unfold gl_ins
  rw [List.length_append, List.length_cons, List.length_take, List.length_drop]
  omega
theorem gl_at_ins {m : gl_Mp} {p i : Nat} {q : Int32 × Nat} (hp : p ≤ m.length) : gl_at (gl_ins m p q) i = if i < p then gl_at m i else if i = p then q else gl_at m (i - 1) := by
  unfold gl_at gl_ins
  rw [List.getD_eq_getElem?_getD, List.getElem?_append, List.length_take, Nat.min_eq_left hp]
  by_cases h1 : i < p
  · rw [if_pos h1, if_pos h1, List.getElem?_take_of_lt h1, List.getD_eq_getElem?_getD]
  · rw [if_neg h1, if_neg h1]
    by_cases h2 : i = p
    · subst h2
      rw [if_pos rfl, Nat.sub_self]; rfl
    · rw [if_neg h2, show i - p = (i - 1 - p) + 1 by omega, List.getElem?_cons_succ, List.getElem?_drop, List.getD_eq_getElem?_getD]
      congr 2; omega
theorem gl_mem_ins {m : gl_Mp} {p : Nat} {q x : Int32 × Nat} : x ∈ gl_ins m p q ↔ x = q ∨ x ∈ m := by
  unfold gl_ins
  rw [List.mem_append, List.mem_cons]
  have : x ∈ m ↔ x ∈ m.take p ∨ x ∈ m.drop p := by rw [← List.mem_append, List.take_append_drop]
  rw [this]
  constructor
  · rintro (h | h | h)
    · exact Or.inr (Or.inl h)
    · exact Or.inl h
    · exact Or.inr (Or.inr h)
  · rintro (h | h | h)
    · exact Or.inr (Or.inl h)
    · exact Or.inl h
    · exact Or.inr (Or.inr h)
set_option maxHeartbeats 4000000 in
set_option maxRecDepth 100000 in
theorem ct_X8_compare {l : Launch} {δ : gl_Del} {Λ : gl_Lay} {I : Nat → Nat → Int32} {L : Nat → Nat → Int64} {B : Nat → Nat → Bool} {R : Nat → Nat → Option Nat} {k : Nat} (h : Nat) (hh : 3 ≤ h) (hG : gl_GL Λ R) (hk4 : k < 400) : gl_Ct l δ yX8_compare (ws_ yX8_compare cX8_compare 3 ((some FieldType.int))) (gl_rm h 0 0) 0 0 [.ref 695, .int (nI k)] (Λ, I, L, B, R) (gl_Qi fun r S => r = gl_cp (fun t => I 698 (k * 8 + t)) (I 700) 8 0 ∧ S = (Λ, I, L, B, R)) := by
  refine gl_of (by decide) (Nat.le_of_ble_eq_true rfl) rfl ?_
  intro κ C hQ hlκ hδκ hnL hini
  change gl_Cx κ RX8 _ _ _ at C
  have loop : ∀ n j : Nat, j + n = 8 → gl_cp (fun t => I 698 (k * 8 + t)) (I 700) n j = gl_cp (fun t => I 698 (k * 8 + t)) (I 700) 8 0 → gl_J κ 0 0 (Λ, I, L, B, R) 2 [some (.ref 695), some (.int (nI k)), some (.int (nI j))] [] := by
    intro n
    induction n with
    | zero =>
      intro j hj hres
      have hjN : j = 8 := by omega
      subst hjN
      refine j_iload_n C dX8_compare_2 rfl 3 rfl ?_
      refine j_bipush (v := nI 8) C dX8_compare_3 (by decide) 5 rfl ?_
      refine n_icmp_ge C 55 8 dX8_compare_5 (by decide) rfl (by omega) (by omega) (fun c_5 => ?_) (fun c_5 => ?_)
      · refine j_iconst (v := nI 0) C dX8_compare_55 (by decide) 56 rfl ?_
        exact j_iret C hQ ⟨hres, rfl⟩ (by omega) (by omega) dX8_compare_56
      · exact absurd c_5 (by omega)
    | succ n ih =>
      intro j hj hres
      refine j_iload_n C dX8_compare_2 rfl 3 rfl ?_
      refine j_bipush (v := nI 8) C dX8_compare_3 (by decide) 5 rfl ?_
      refine n_icmp_ge C 55 8 dX8_compare_5 (by decide) rfl (by omega) (by omega) (fun c_5 => ?_) (fun c_5 => ?_)
      · exact absurd c_5 (by omega)
      · refine j_aload_n C dX8_compare_8 rfl 9 rfl ?_
        refine gf_X8_18 C hG.m0 hG.mr3 dX8_compare_9 12 rfl ?_
        refine j_iload_n C dX8_compare_12 rfl 13 rfl ?_
        refine j_bipush (v := nI 8) C dX8_compare_13 (by decide) 15 rfl ?_
        refine n_imul C dX8_compare_15 16 rfl ?_
        refine j_iload_n C dX8_compare_16 rfl 17 rfl ?_
        refine n_iadd C dX8_compare_17 18 rfl ?_
        refine j_iald C hG.m3 (by omega) (by decide) dX8_compare_18 19 rfl ?_
        refine j_aload_n C dX8_compare_19 rfl 20 rfl ?_
        refine gf_X8_24 C hG.m0 hG.mr5 dX8_compare_20 23 rfl ?_
        refine j_iload_n C dX8_compare_23 rfl 24 rfl ?_
        refine j_iald C hG.m5 (by omega) (by decide) dX8_compare_24 25 rfl ?_
        refine j_icmp_eq C 49 28 dX8_compare_25 (by decide) rfl (fun c_25 => ?_) (fun c_25 => ?_)
        · refine n_iinc C dX8_compare_49 rfl (by rw [hnL]; decide) rfl 52 rfl ?_
          refine j_goto (tgt := 2) C dX8_compare_52 (by decide) ?_
          exact ih (j + 1) (by omega) (by rw [← hres, gl_cp, if_pos c_25])
        · refine j_aload_n C dX8_compare_28 rfl 29 rfl ?_
          refine gf_X8_18 C hG.m0 hG.mr3 dX8_compare_29 32 rfl ?_
          refine j_iload_n C dX8_compare_32 rfl 33 rfl ?_
          refine j_bipush (v := nI 8) C dX8_compare_33 (by decide) 35 rfl ?_
          refine n_imul C dX8_compare_35 36 rfl ?_
          refine j_iload_n C dX8_compare_36 rfl 37 rfl ?_
          refine n_iadd C dX8_compare_37 38 rfl ?_
          refine j_iald C hG.m3 (by omega) (by decide) dX8_compare_38 39 rfl ?_
          refine j_aload_n C dX8_compare_39 rfl 40 rfl ?_
          refine gf_X8_24 C hG.m0 hG.mr5 dX8_compare_40 43 rfl ?_
          refine j_iload_n C dX8_compare_43 rfl 44 rfl ?_
          refine j_iald C hG.m5 (by omega) (by decide) dX8_compare_44 45 rfl ?_
          refine j_ci C (cs_X8_45 C (ct_J0_compareUnsigned (h - 1) (by omega)) rfl (by omega) (by omega) (by omega) rfl (Nat.le_of_ble_eq_true rfl) dX8_compare_45) 48 rfl ?_
          rintro _ _ ⟨rfl, rfl⟩
          exact j_iret C hQ ⟨by rw [← hres, gl_cp, if_neg c_25], rfl⟩ (by omega) (by omega) dX8_compare_48
  refine j_iconst (v := nI 0) C dX8_compare_0 (by decide) 1 rfl ?_
  refine j_istore_n C dX8_compare_1 (Nat.le_of_ble_eq_true rfl) (by rw [hnL]; decide) rfl 2 rfl ?_
  exact loop 8 0 rfl rfl
theorem gl_cp_way {I : Nat → Nat → Int32} {m : gl_Mp} {k : Nat} {ky : Int32} (hm : gl_gm I m) (hk : k < m.length) (ho : ∀ t, t < 8 → I 700 t = gl_way ky t) : (gl_cp (fun t => I 698 (k * 8 + t)) (I 700) 8 0 < 0 ↔ gl_wv (gl_at m k).1 < gl_wv ky) ∧ (gl_cp (fun t => I 698 (k * 8 + t)) (I 700) 8 0 = 0 ↔ (gl_at m k).1 = ky) := by
  have hs := gl_cp_spec (f := fun t => I 698 (k * 8 + t)) (g := I 700) 8 0 (fun t ht => absurd ht (by omega))
  have hw := (hm.2 k hk).2.2
  refine ⟨?_, ?_⟩
  · rw [hs.1, Nat.zero_add, gl_vl_congr (g := gl_way (gl_at m k).1) hw, gl_vl_congr ho]; rfl
  · rw [hs.2, Nat.zero_add]
    constructor
    · intro q
      exact gl_way_inj (fun t ht => by rw [← hw t ht, ← ho t ht]; exact q t ht)
    · intro q t ht
      show I 698 (k * 8 + t) = I 700 t
      rw [hw t ht, ho t ht, q]
theorem gl_gm_ins {I I' : Nat → Nat → Int32} {m : gl_Mp} {p v : Nat} {ky : Int32} (hm : gl_gm I m) (hp : p ≤ m.length) (ho : ∀ t, t < 8 → I 700 t = gl_way ky t) (h0 : I' 695 6 = nI (m.length + 1)) (h1 : I' 696 = va_up (va_cpy (I 696) (I 696) p (p + 1) (m.length - p)) p ky) (h2 : I' 697 = va_up (va_cpy (I 697) (I 697) p (p + 1) (m.length - p)) p (nI v)) (h3 : I' 698 = va_cpy (I 700) (va_cpy (I 698) (I 698) (p * 8) ((p + 1) * 8) ((m.length - p) * 8)) 0 (p * 8) 8) : gl_gm I' (gl_ins m p (ky, v)) := by
  refine ⟨by rw [h0, gl_ins_len hp], fun i hi => ?_⟩
  rw [gl_ins_len hp] at hi
  rw [gl_at_ins hp, h1, h2, h3]
  by_cases q1 : i < p
  · rw [if_pos q1, gl_up_ne (by omega), gl_up_ne (by omega), pk_cpy_out (by omega), pk_cpy_out (by omega)]
    refine ⟨(hm.2 i (by omega)).1, (hm.2 i (by omega)).2.1, fun t ht => ?_⟩
    rw [pk_cpy_out (by omega), pk_cpy_out (by omega)]
    exact (hm.2 i (by omega)).2.2 t ht
  · rw [if_neg q1]
    by_cases q2 : i = p
    · subst q2
      rw [if_pos rfl, gl_up_eq, gl_up_eq]
      refine ⟨rfl, rfl, fun t ht => ?_⟩
      rw [pk_cpy_in (by omega) (by omega), ← ho t ht]
      congr 1; omega
    · rw [if_neg q2, gl_up_ne q2, gl_up_ne q2, pk_cpy_in (by omega) (by omega), pk_cpy_in (by omega) (by omega), show p + (i - (p + 1)) = i - 1 by omega]
      refine ⟨(hm.2 (i - 1) (by omega)).1, (hm.2 (i - 1) (by omega)).2.1, fun t ht => ?_⟩
      rw [pk_cpy_out (by omega), pk_cpy_in (by omega) (by omega), show p * 8 + (i * 8 + t - (p + 1) * 8) = (i - 1) * 8 + t by omega]
      exact (hm.2 (i - 1) (by omega)).2.2 t ht
theorem gl_srt_ins {m : gl_Mp} {p v : Nat} {ky : Int32} (hs : gl_srt m) (hp : p ≤ m.length) (hl : ∀ i, i < p → gl_wv (gl_at m i).1 < gl_wv ky) (hr : ∀ i, p ≤ i → i < m.length → gl_wv ky < gl_wv (gl_at m i).1) : gl_srt (gl_ins m p (ky, v)) := by
  intro i j hij hj
  rw [gl_ins_len hp] at hj
  rw [gl_at_ins hp, gl_at_ins hp]
  by_cases q1 : j < p
  · rw [if_pos (by omega), if_pos q1]; exact hs i j hij (by omega)
  · rw [if_neg q1]
    by_cases q2 : j = p
    · subst q2
      rw [if_pos hij, if_pos rfl]; exact hl i hij
    · rw [if_neg q2]
      by_cases q3 : i < p
      · rw [if_pos q3]; exact hs i (j - 1) (by omega) (by omega)
      · rw [if_neg q3]
        by_cases q4 : i = p
        · subst q4; rw [if_pos rfl]; exact hr (j - 1) (by omega) (by omega)
        · rw [if_neg q4]; exact hs (i - 1) (j - 1) (by omega) (by omega)
set_option maxHeartbeats 4000000 in
set_option maxRecDepth 100000 in
theorem ct_X8_put {l : Launch} {δ : gl_Del} {Λ : gl_Lay} {I : Nat → Nat → Int32} {L : Nat → Nat → Int64} {B : Nat → Nat → Bool} {R : Nat → Nat → Option Nat} {m : gl_Mp} {ky : Int32} {v : Nat} (h : Nat) (hh : 4 ≤ h) (hG : gl_GL Λ R) (hm : gl_gm I m) (hs : gl_srt m) (hlen : m.length < 400) : gl_Ct l δ yX8_put (ws_ yX8_put cX8_put 6 none) (gl_rm h 0 0) 0 0 [.ref 695, .int ky, .int (nI v)] (Λ, I, L, B, R) (gl_Qv fun S => ∃ I' m', S = (Λ, I', L, B, R) ∧ gl_fr 690 701 I I' ∧ gl_gm I' m' ∧ gl_srt m' ∧ m'.length ≤ m.length + 1 ∧ ∀ q, q ∈ m' ↔ q ∈ m ∨ (q = (ky, v) ∧ ∀ i, i < m.length → (gl_at m i).1 ≠ ky)) := by
  refine gl_of (by decide) (Nat.le_of_ble_eq_true rfl) rfl ?_
  intro κ C hQ hlκ hδκ hnL hini
  change gl_Cx κ RX8 _ _ _ at C
  have rest : ∀ I1 : Nat → Nat → Int32, gl_fr 690 701 I I1 → gl_gm I1 m → (∀ t, t < 8 → I1 700 t = gl_way ky t) → gl_J κ 0 0 (Λ, I1, L, B, R) 13 [some (.ref 695), some (.int ky), some (.int (nI v)), none, none, none] [] := by
   intro I1 hf1 hm1 ho
   have ins : ∀ low : Nat, low ≤ m.length → (∀ i, i < low → gl_wv (gl_at m i).1 < gl_wv ky) → (∀ i, low ≤ i → i < m.length → gl_wv ky < gl_wv (gl_at m i).1) → (∀ i, i < m.length → (gl_at m i).1 ≠ ky) → ∀ x4 x5 : Option Value, gl_J κ 0 0 (Λ, I1, L, B, R) 76 [some (.ref 695), some (.int ky), some (.int (nI v)), some (.int (nI low)), x4, x5] [] := by
    intro low hlow hlo hgt hno x4 x5
    refine j_aload_n C dX8_put_76 rfl 77 rfl ?_
    refine gf_X8_18 C hG.m0 hG.mr3 dX8_put_77 80 rfl ?_
    refine j_iload_n C dX8_put_80 rfl 81 rfl ?_
    refine j_bipush (v := nI 8) C dX8_put_81 (by decide) 83 rfl ?_
    refine n_imul C dX8_put_83 84 rfl ?_
    refine j_aload_n C dX8_put_84 rfl 85 rfl ?_
    refine gf_X8_18 C hG.m0 hG.mr3 dX8_put_85 88 rfl ?_
    refine j_iload_n C dX8_put_88 rfl 89 rfl ?_
    refine j_iconst (v := nI 1) C dX8_put_89 (by decide) 90 rfl ?_
    refine n_iadd C dX8_put_90 91 rfl ?_
    refine j_bipush (v := nI 8) C dX8_put_91 (by decide) 93 rfl ?_
    refine n_imul C dX8_put_93 94 rfl ?_
    refine j_aload_n C dX8_put_94 rfl 95 rfl ?_
    refine gf_X8_31 C hG.m0 dX8_put_95 98 rfl ?_
    rw [hm1.1]
    refine j_iload_n C dX8_put_98 rfl 99 rfl ?_
    refine n_isub C dX8_put_99 (by omega) 100 rfl ?_
    refine j_bipush (v := nI 8) C dX8_put_100 (by decide) 102 rfl ?_
    refine n_imul C dX8_put_102 103 rfl ?_
    refine j_copyI C q507 hG.m3 hG.m3 (by omega) (by omega) (by decide) (by decide) (by omega) (Nat.le_of_ble_eq_true rfl) dX8_put_103 106 rfl ?_
    refine j_aload_n C dX8_put_106 rfl 107 rfl ?_
    refine gf_X8_9 C hG.m0 hG.mr1 dX8_put_107 110 rfl ?_
    refine j_iload_n C dX8_put_110 rfl 111 rfl ?_
    refine j_aload_n C dX8_put_111 rfl 112 rfl ?_
    refine gf_X8_9 C hG.m0 hG.mr1 dX8_put_112 115 rfl ?_
    refine j_iload_n C dX8_put_115 rfl 116 rfl ?_
    refine j_iconst (v := nI 1) C dX8_put_116 (by decide) 117 rfl ?_
    refine n_iadd C dX8_put_117 118 rfl ?_
    refine j_aload_n C dX8_put_118 rfl 119 rfl ?_
    refine gf_X8_31 C hG.m0 dX8_put_119 122 rfl ?_
    rw [gl_up_ne (show (695 : Nat) ≠ 698 by decide), hm1.1]
    refine j_iload_n C dX8_put_122 rfl 123 rfl ?_
    refine n_isub C dX8_put_123 (by omega) 124 rfl ?_
    refine j_copyI C q507 hG.m1 hG.m1 (by omega) (by omega) (by decide) (by decide) (by omega) (Nat.le_of_ble_eq_true rfl) dX8_put_124 127 rfl ?_
    refine j_aload_n C dX8_put_127 rfl 128 rfl ?_
    refine gf_X8_15 C hG.m0 hG.mr2 dX8_put_128 131 rfl ?_
    refine j_iload_n C dX8_put_131 rfl 132 rfl ?_
    refine j_aload_n C dX8_put_132 rfl 133 rfl ?_
    refine gf_X8_15 C hG.m0 hG.mr2 dX8_put_133 136 rfl ?_
    refine j_iload_n C dX8_put_136 rfl 137 rfl ?_
    refine j_iconst (v := nI 1) C dX8_put_137 (by decide) 138 rfl ?_
    refine n_iadd C dX8_put_138 139 rfl ?_
    refine j_aload_n C dX8_put_139 rfl 140 rfl ?_
    refine gf_X8_31 C hG.m0 dX8_put_140 143 rfl ?_
    rw [gl_up_ne (show (695 : Nat) ≠ 696 by decide), gl_up_ne (show (695 : Nat) ≠ 698 by decide), hm1.1]
    refine j_iload_n C dX8_put_143 rfl 144 rfl ?_
    refine n_isub C dX8_put_144 (by omega) 145 rfl ?_
    refine j_copyI C q507 hG.m2 hG.m2 (by omega) (by omega) (by decide) (by decide) (by omega) (Nat.le_of_ble_eq_true rfl) dX8_put_145 148 rfl ?_
    refine j_aload_n C dX8_put_148 rfl 149 rfl ?_
    refine gf_X8_24 C hG.m0 hG.mr5 dX8_put_149 152 rfl ?_
    refine j_iconst (v := nI 0) C dX8_put_152 (by decide) 153 rfl ?_
    refine j_aload_n C dX8_put_153 rfl 154 rfl ?_
    refine gf_X8_18 C hG.m0 hG.mr3 dX8_put_154 157 rfl ?_
    refine j_iload_n C dX8_put_157 rfl 158 rfl ?_
    refine j_bipush (v := nI 8) C dX8_put_158 (by decide) 160 rfl ?_
    refine n_imul C dX8_put_160 161 rfl ?_
    refine j_bipush (v := nI 8) C dX8_put_161 (by decide) 163 rfl ?_
    refine j_copyI C q507 hG.m5 hG.m3 (by omega) (by omega) (by decide) (by decide) (by omega) (Nat.le_of_ble_eq_true rfl) dX8_put_163 166 rfl ?_
    refine j_aload_n C dX8_put_166 rfl 167 rfl ?_
    refine gf_X8_9 C hG.m0 hG.mr1 dX8_put_167 170 rfl ?_
    refine j_iload_n C dX8_put_170 rfl 171 rfl ?_
    refine j_iload_n C dX8_put_171 rfl 172 rfl ?_
    refine j_iast C hG.m1 (by omega) (by decide) dX8_put_172 173 rfl ?_
    refine j_aload_n C dX8_put_173 rfl 174 rfl ?_
    refine gf_X8_15 C hG.m0 hG.mr2 dX8_put_174 177 rfl ?_
    refine j_iload_n C dX8_put_177 rfl 178 rfl ?_
    refine j_iload_n C dX8_put_178 rfl 179 rfl ?_
    refine j_iast C hG.m2 (by omega) (by decide) dX8_put_179 180 rfl ?_
    refine j_aload_n C dX8_put_180 rfl 181 rfl ?_
    refine j_dup C dX8_put_181 rfl 182 rfl ?_
    refine gf_X8_31 C hG.m0 dX8_put_182 185 rfl ?_
    rw [gl_u2_ne (show (695 : Nat) ≠ 697 by decide), gl_u2_ne (show (695 : Nat) ≠ 696 by decide), gl_up_ne (show (695 : Nat) ≠ 698 by decide), gl_up_ne (show (695 : Nat) ≠ 697 by decide), gl_up_ne (show (695 : Nat) ≠ 696 by decide), gl_up_ne (show (695 : Nat) ≠ 698 by decide), hm1.1]
    refine j_iconst (v := nI 1) C dX8_put_185 (by decide) 186 rfl ?_
    refine n_iadd C dX8_put_186 187 rfl ?_
    refine pf_X8_31 C hG.m0 dX8_put_187 190 rfl ?_
    refine j_ret C hQ ⟨_, gl_ins m low (ky, v), rfl, hf1.tr ((((((((gl_fr.rf.up (c := 698) (by decide) (by decide)).up (c := 696) (by decide) (by decide)).up (c := 697) (by decide) (by decide)).up (c := 698) (by decide) (by decide)).u2 (c := 696) (by decide) (by decide)).u2 (c := 697) (by decide) (by decide))).u2 (c := 695) (by decide) (by decide)), gl_gm_ins hm1 hlow ho ?_ ?_ ?_ ?_, gl_srt_ins hs hlow hlo hgt, by rw [gl_ins_len hlow]; exact Nat.le_refl _, fun q => ?_⟩ (by omega) (by omega) dX8_put_190
    · rw [gl_u2_eq, gl_up_eq]
    · rw [gl_u2_ne (by decide), gl_u2_ne (by decide), gl_u2_eq, gl_up_ne (by decide), gl_up_ne (by decide), gl_up_eq, gl_up_ne (by decide)]
    · rw [gl_u2_ne (by decide), gl_u2_eq, gl_u2_ne (by decide), gl_up_ne (by decide), gl_up_eq, gl_up_ne (by decide), gl_up_ne (by decide)]
    · rw [gl_u2_ne (by decide), gl_u2_ne (by decide), gl_u2_ne (by decide), gl_up_eq, gl_up_ne (by decide), gl_up_ne (by decide), gl_up_ne (by decide), gl_up_ne (by decide), gl_up_ne (by decide), gl_up_eq]
    · rw [gl_mem_ins]
      constructor
      · rintro (q1 | q1)
        · exact Or.inr ⟨q1, hno⟩
        · exact Or.inl q1
      · rintro (q1 | q1)
        · exact Or.inr q1
        · exact Or.inl q1.1
   have fin : ∀ (low : Nat) (x5 : Option Value), low ≤ m.length → (∀ i, i < low → gl_wv (gl_at m i).1 < gl_wv ky) → (∀ i, low ≤ i → i < m.length → ¬ gl_wv (gl_at m i).1 < gl_wv ky) → gl_J κ 0 0 (Λ, I1, L, B, R) 59 [some (.ref 695), some (.int ky), some (.int (nI v)), some (.int (nI low)), some (.int (nI low)), x5] [] := by
    intro low x5 hlow hlo hhi
    refine j_iload_n C dX8_put_59 rfl 60 rfl ?_
    refine j_aload_n C dX8_put_60 rfl 61 rfl ?_
    refine gf_X8_31 C hG.m0 dX8_put_61 64 rfl ?_
    rw [hm1.1]
    refine n_icmp_ge C 76 67 dX8_put_64 (by decide) rfl (by omega) (by omega) (fun c_64 => ?_) (fun c_64 => ?_)
    · have hno : ∀ i, i < m.length → (gl_at m i).1 ≠ ky := fun i hi e => by
        have := hlo i (by omega)
        rw [e] at this
        omega
      exact ins low hlow hlo (fun i h1 h2 => absurd h2 (by omega)) hno _ _
    · refine j_aload_n C dX8_put_67 rfl 68 rfl ?_
      refine j_iload_n C dX8_put_68 rfl 69 rfl ?_
      refine j_ci C (cs_X8_56 C (ct_X8_compare (k := low) (h - 1) (by omega) hG (by omega)) hG.m0 rfl (by omega) (by omega) (by omega) rfl (Nat.le_of_ble_eq_true rfl) dX8_put_69) 72 rfl ?_
      rintro _ _ ⟨rfl, rfl⟩
      refine j_if_ne C 76 75 dX8_put_72 (by decide) rfl (fun c_72 => ?_) (fun c_72 => ?_)
      · have hne : (gl_at m low).1 ≠ ky := fun e => c_72 ((gl_cp_way hm1 (by omega) ho).2.mpr e)
        have hgt : ∀ i, low ≤ i → i < m.length → gl_wv ky < gl_wv (gl_at m i).1 := by
          intro i h1 h2
          have h3 := hhi low (Nat.le_refl _) (by omega)
          have h4 : gl_wv (gl_at m low).1 ≠ gl_wv ky := fun e => hne (gl_wv_inj e)
          rcases Nat.lt_or_ge low i with q | q
          · have := hs low i q h2
            omega
          · obtain rfl : i = low := by omega
            omega
        exact ins low hlow hlo hgt (fun i hi e => by
          rcases Nat.lt_or_ge i low with q | q
          · have := hlo i q
            rw [e] at this
            omega
          · have := hgt i q hi
            rw [e] at this
            omega) _ _
      · refine j_ret C hQ ⟨_, m, rfl, hf1, hm1, hs, Nat.le_succ _, fun q => ⟨Or.inl, ?_⟩⟩ (by omega) (by omega) dX8_put_75
        rintro (q1 | q1)
        · exact q1
        · exact absurd ((gl_cp_way hm1 (by omega) ho).2.mp c_72) (q1.2 low (by omega))
   have loop : ∀ (n low high : Nat) (x5 : Option Value), high - low ≤ n → low ≤ high → high ≤ m.length → (∀ i, i < low → gl_wv (gl_at m i).1 < gl_wv ky) → (∀ i, high ≤ i → i < m.length → ¬ gl_wv (gl_at m i).1 < gl_wv ky) → gl_J κ 0 0 (Λ, I1, L, B, R) 21 [some (.ref 695), some (.int ky), some (.int (nI v)), some (.int (nI low)), some (.int (nI high)), x5] [] := by
    intro n
    induction n with
    | zero =>
      intro low high x5 hn hlh hhm hlo hhi
      have hlow : low ≤ m.length := by omega
      refine j_iload_n C dX8_put_21 rfl 22 rfl ?_
      refine j_iload C dX8_put_22 rfl 24 rfl ?_
      refine n_icmp_ge C 59 27 dX8_put_24 (by decide) rfl (by omega) (by omega) (fun c_24 => ?_) (fun c_24 => ?_)
      · obtain rfl : low = high := by omega
        exact fin low _ hlow hlo hhi
      · exact absurd c_24 (by omega)
    | succ n ih =>
      intro low high x5 hn hlh hhm hlo hhi
      have hlow : low ≤ m.length := by omega
      refine j_iload_n C dX8_put_21 rfl 22 rfl ?_
      refine j_iload C dX8_put_22 rfl 24 rfl ?_
      refine n_icmp_ge C 59 27 dX8_put_24 (by decide) rfl (by omega) (by omega) (fun c_24 => ?_) (fun c_24 => ?_)
      · obtain rfl : low = high := by omega
        exact fin low _ hlow hlo hhi
      · refine j_iload_n C dX8_put_27 rfl 28 rfl ?_
        refine j_iload C dX8_put_28 rfl 30 rfl ?_
        refine n_iadd C dX8_put_30 31 rfl ?_
        refine j_iconst (v := nI 2) C dX8_put_31 (by decide) 32 rfl ?_
        refine n_idiv C dX8_put_32 (by omega) (by omega) (by omega) 33 rfl ?_
        refine j_istore C dX8_put_33 (Nat.le_of_ble_eq_true rfl) (by rw [hnL]; decide) rfl 35 rfl ?_
        refine j_aload_n C dX8_put_35 rfl 36 rfl ?_
        refine j_iload C dX8_put_36 rfl 38 rfl ?_
        refine j_ci C (cs_X8_56 C (ct_X8_compare (k := (low + high) / 2) (h - 1) (by omega) hG (by omega)) hG.m0 rfl (by omega) (by omega) (by omega) rfl (Nat.le_of_ble_eq_true rfl) dX8_put_38) 41 rfl ?_
        rintro _ _ ⟨rfl, rfl⟩
        refine j_if_ge C 52 44 dX8_put_41 (by decide) rfl (fun c_41 => ?_) (fun c_41 => ?_)
        · refine j_iload C dX8_put_52 rfl 54 rfl ?_
          refine j_istore C dX8_put_54 (Nat.le_of_ble_eq_true rfl) (by rw [hnL]; decide) rfl 56 rfl ?_
          refine j_goto (tgt := 21) C dX8_put_56 (by decide) ?_
          have hc : ¬ gl_wv (gl_at m ((low + high) / 2)).1 < gl_wv ky := fun e => Int32.not_lt.mpr c_41 ((gl_cp_way hm1 (by omega) ho).1.mpr e)
          exact ih low ((low + high) / 2) _ (by omega) (by omega) (by omega) hlo (fun i h1 h2 => by
            rcases Nat.lt_or_ge ((low + high) / 2) i with q | q
            · have := hs _ i q h2
              omega
            · obtain rfl : i = (low + high) / 2 := by omega
              exact hc)
        · refine j_iload C dX8_put_44 rfl 46 rfl ?_
          refine j_iconst (v := nI 1) C dX8_put_46 (by decide) 47 rfl ?_
          refine n_iadd C dX8_put_47 48 rfl ?_
          refine j_istore_n C dX8_put_48 (Nat.le_of_ble_eq_true rfl) (by rw [hnL]; decide) rfl 49 rfl ?_
          refine j_goto (tgt := 56) C dX8_put_49 (by decide) ?_
          refine j_goto (tgt := 21) C dX8_put_56 (by decide) ?_
          have hc : gl_wv (gl_at m ((low + high) / 2)).1 < gl_wv ky := (gl_cp_way hm1 (by omega) ho).1.mp (Int32.not_le.mp c_41)
          exact ih ((low + high) / 2 + 1) high _ (by omega) (by omega) (by omega) (fun i h1 => by
            rcases Nat.lt_or_ge i ((low + high) / 2) with q | q
            · have := hs i _ q (by omega)
              omega
            · obtain rfl : i = (low + high) / 2 := by omega
              exact hc) hhi
   refine j_iconst (v := nI 0) C dX8_put_13 (by decide) 14 rfl ?_
   refine j_istore_n C dX8_put_14 (Nat.le_of_ble_eq_true rfl) (by rw [hnL]; decide) rfl 15 rfl ?_
   refine j_aload_n C dX8_put_15 rfl 16 rfl ?_
   refine gf_X8_31 C hG.m0 dX8_put_16 19 rfl ?_
   rw [hm1.1]
   refine j_istore C dX8_put_19 (Nat.le_of_ble_eq_true rfl) (by rw [hnL]; decide) rfl 21 rfl ?_
   exact loop m.length 0 m.length none (by omega) (by omega) (Nat.le_refl _) (fun i h1 => absurd h1 (by omega)) (fun i h1 h2 => absurd h2 (by omega))
  refine j_aload_n C dX8_put_0 rfl 1 rfl ?_
  refine gf_X8_27 C hG.m0 hG.mr0 dX8_put_1 4 rfl ?_
  refine j_iload_n C dX8_put_4 rfl 5 rfl ?_
  refine j_aload_n C dX8_put_5 rfl 6 rfl ?_
  refine gf_X8_24 C hG.m0 hG.mr5 dX8_put_6 9 rfl ?_
  refine j_iconst (v := nI 0) C dX8_put_9 (by decide) 10 rfl ?_
  refine j_cv C (cs_X8_50 C (ct_X6_way (to := 700) (nt := 8) (at_ := 0) (h - 1) (by omega) hG.mx hG.m5 (by decide) (by decide) (by decide)) hG.mx.1 rfl (by omega) (by omega) (by omega) rfl (Nat.le_of_ble_eq_true rfl) dX8_put_10) 13 rfl ?_
  rintro _ rfl
  refine rest _ ((gl_fr.rf.m1 (by decide) (by decide)).up (by decide) (by decide)) (gl_gm_eq hm (by rw [gl_up_ne (by decide), gl_m1_o (by decide) (by decide)]) (by rw [gl_up_ne (by decide), gl_m1_o (by decide) (by decide)]) (by rw [gl_up_ne (by decide), gl_m1_o (by decide) (by decide)]) (by rw [gl_up_ne (by decide), gl_m1_o (by decide) (by decide)])) (fun t ht => ?_)
  rw [gl_up_eq, pk_cpy_in (by omega) (by omega)]
  congr 1; omega
