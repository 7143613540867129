/-! MODULE Model, readers: copy, agree, blame, isMarked, blame asked, reader, smear (by gen54.py) -/
set_option maxRecDepth 100000
/-- a head's row copied, with or without its fourth word -/
def gl_cpx (f g : Nat → Int32) (q : Nat) (al : Bool) (j : Nat) : Nat → Int32 := fun k => if q ≤ k ∧ k < q + j ∧ (al = true ∨ k ≠ q + 3) then f (k - q) else g k
theorem gl_cpx_0 {f g : Nat → Int32} {q : Nat} {al : Bool} : gl_cpx f g q al 0 = g := by
  funext k; exact if_neg (by omega)
theorem gl_cpx_s {f g : Nat → Int32} {q j : Nat} {al : Bool} (h : al = true ∨ j ≠ 3) : va_up (gl_cpx f g q al j) (q + j) (f j) = gl_cpx f g q al (j + 1) := by
  funext k
  by_cases hk : k = q + j
  · subst hk
    rw [gl_up_eq]
    unfold gl_cpx
    rw [if_pos ⟨by omega, by omega, h.elim Or.inl (fun h => Or.inr (by omega))⟩]
    congr 1; omega
  · rw [gl_up_ne hk]
    unfold gl_cpx
    by_cases hq : q ≤ k ∧ k < q + j ∧ (al = true ∨ k ≠ q + 3)
    · rw [if_pos hq, if_pos ⟨hq.1, by omega, hq.2.2⟩]
    · rw [if_neg hq, if_neg (fun h => hq ⟨h.1, by omega, h.2.2⟩)]
theorem gl_cpx_n {f g : Nat → Int32} {q : Nat} : gl_cpx f g q false 3 = gl_cpx f g q false 4 := by
  funext k
  unfold gl_cpx
  by_cases hq : q ≤ k ∧ k < q + 3 ∧ (false = true ∨ k ≠ q + 3)
  · rw [if_pos hq, if_pos ⟨hq.1, by omega, hq.2.2⟩]
  · rw [if_neg hq, if_neg (fun h => hq ⟨h.1, by have := h.2.2.resolve_left (by decide); omega, h.2.2⟩)]
theorem gl_cpx_out {f g : Nat → Int32} {q j k : Nat} {al : Bool} (h : k < q ∨ q + j ≤ k) : gl_cpx f g q al j k = g k := if_neg (by omega)
theorem gl_cpx_in {f g : Nat → Int32} {q j t : Nat} {al : Bool} (h : t < j) (h3 : al = true ∨ t ≠ 3) : gl_cpx f g q al j (q + t) = f t := by
  unfold gl_cpx
  rw [if_pos ⟨by omega, by omega, h3.elim Or.inl (fun h => Or.inr (by omega))⟩]
  congr 1; omega
set_option maxHeartbeats 4000000 in
set_option maxRecDepth 100000 in
theorem ct_X9_copy {l : Launch} {δ : gl_Del} {Λ : Nat × (Nat → Nat × Nat)} {R : Nat → Nat → Option Nat} {I : Nat → Nat → Int32} {L : Nat → Nat → Int64} {B : Nat → Nat → Bool} {x y nx ny p q : Nat} {al : Bool} (h : Nat) (hh : 1 ≤ h) (hx : Λ.2 x = (0, nx)) (hp : p + 28 ≤ nx) (hnx : nx < 2 ^ 31) (hy : Λ.2 y = (0, ny)) (hq : q + 28 ≤ ny) (hny : ny < 2 ^ 31) (hxy : x ≠ y ∨ p + 28 ≤ q ∨ q + 28 ≤ p) : gl_Ct l δ yX9_copy (ws_ yX9_copy cX9_copy 6 none) (gl_rm h 0 0) 0 0 [.ref x, .int (nI p), .ref y, .int (nI q), .int (b2i al)] (Λ, I, L, B, R) (gl_Qv fun S => S = (Λ, va_up I y (gl_cpx (fun t => I x (p + t)) (I y) q al 28), L, B, R)) := by
  refine gl_of (by decide) (Nat.le_of_ble_eq_true rfl) rfl ?_
  intro κ C hQ hlκ hδκ hnL hini
  change gl_Cx κ RX9 _ _ _ at C
  have loop : ∀ k j : Nat, j + k = 28 → gl_J κ 0 0 (Λ, va_up I y (gl_cpx (fun t => I x (p + t)) (I y) q al j), L, B, R) 3 [some (.ref x), some (.int (nI p)), some (.ref y), some (.int (nI q)), some (.int (b2i al)), some (.int (nI j))] [] := by
    intro k
    induction k with
    | zero =>
      intro j hj
      have hjN : j = 28 := by omega
      subst hjN
      refine j_iload C dX9_copy_3 rfl 5 rfl ?_
      refine j_bipush (v := nI 28) C dX9_copy_5 (by decide) 7 rfl ?_
      refine n_icmp_ge C 39 10 dX9_copy_7 (by decide) rfl (by omega) (by omega) (fun c_7 => ?_) (fun c_7 => ?_)
      · exact j_ret C hQ rfl (by omega) (by omega) dX9_copy_39
      · exact absurd c_7 (by omega)
    | succ k ih =>
      intro j hj
      refine j_iload C dX9_copy_3 rfl 5 rfl ?_
      refine j_bipush (v := nI 28) C dX9_copy_5 (by decide) 7 rfl ?_
      refine n_icmp_ge C 39 10 dX9_copy_7 (by decide) rfl (by omega) (by omega) (fun c_7 => ?_) (fun c_7 => ?_)
      · exact absurd c_7 (by omega)
      · refine j_iload C dX9_copy_10 rfl 12 rfl ?_
        refine b_if_ne C 21 15 dX9_copy_12 (by decide) rfl (fun c_12 => ?_) (fun c_12 => ?_)
        · refine j_aload_n C dX9_copy_21 rfl 22 rfl ?_
          refine j_iload_n C dX9_copy_22 rfl 23 rfl ?_
          refine j_iload C dX9_copy_23 rfl 25 rfl ?_
          refine n_iadd C dX9_copy_25 26 rfl ?_
          refine j_aload_n C dX9_copy_26 rfl 27 rfl ?_
          refine j_iload_n C dX9_copy_27 rfl 28 rfl ?_
          refine j_iload C dX9_copy_28 rfl 30 rfl ?_
          refine n_iadd C dX9_copy_30 31 rfl ?_
          refine j_iald C hx (by omega) hnx dX9_copy_31 32 rfl ?_
          have e31 : va_up I y (gl_cpx (fun t => I x (p + t)) (I y) q al j) x (p + j) = I x (p + j) := by
            by_cases hxe : x = y
            · subst hxe
              rw [gl_up_eq, gl_cpx_out (by omega)]
            · rw [gl_up_ne hxe]
          rw [e31]
          refine j_iast C hy (by omega) hny dX9_copy_32 33 rfl ?_
          refine n_iinc C dX9_copy_33 rfl (by rw [hnL]; decide) rfl 36 rfl ?_
          refine j_goto (tgt := 3) C dX9_copy_36 (by decide) ?_
          rw [gl_u2_up, gl_cpx_s (f := fun t => I x (p + t)) (Or.inl c_12)]
          exact ih (j + 1) (by omega)
        · refine j_iload C dX9_copy_15 rfl 17 rfl ?_
          refine j_iconst (v := nI 3) C dX9_copy_17 (by decide) 18 rfl ?_
          refine n_icmp_eq C 33 21 dX9_copy_18 (by decide) rfl (by omega) (by omega) (fun c_18 => ?_) (fun c_18 => ?_)
          · refine n_iinc C dX9_copy_33 rfl (by rw [hnL]; decide) rfl 36 rfl ?_
            refine j_goto (tgt := 3) C dX9_copy_36 (by decide) ?_
            have hal : al = false := c_12
            subst hal
            subst c_18
            rw [gl_cpx_n]
            exact ih 4 (by omega)
          · refine j_aload_n C dX9_copy_21 rfl 22 rfl ?_
            refine j_iload_n C dX9_copy_22 rfl 23 rfl ?_
            refine j_iload C dX9_copy_23 rfl 25 rfl ?_
            refine n_iadd C dX9_copy_25 26 rfl ?_
            refine j_aload_n C dX9_copy_26 rfl 27 rfl ?_
            refine j_iload_n C dX9_copy_27 rfl 28 rfl ?_
            refine j_iload C dX9_copy_28 rfl 30 rfl ?_
            refine n_iadd C dX9_copy_30 31 rfl ?_
            refine j_iald C hx (by omega) hnx dX9_copy_31 32 rfl ?_
            have e31 : va_up I y (gl_cpx (fun t => I x (p + t)) (I y) q al j) x (p + j) = I x (p + j) := by
              by_cases hxe : x = y
              · subst hxe
                rw [gl_up_eq, gl_cpx_out (by omega)]
              · rw [gl_up_ne hxe]
            rw [e31]
            refine j_iast C hy (by omega) hny dX9_copy_32 33 rfl ?_
            refine n_iinc C dX9_copy_33 rfl (by rw [hnL]; decide) rfl 36 rfl ?_
            refine j_goto (tgt := 3) C dX9_copy_36 (by decide) ?_
            rw [gl_u2_up, gl_cpx_s (f := fun t => I x (p + t)) (Or.inr c_18)]
            exact ih (j + 1) (by omega)
  refine j_iconst (v := nI 0) C dX9_copy_0 (by decide) 1 rfl ?_
  refine j_istore C dX9_copy_1 (Nat.le_of_ble_eq_true rfl) (by rw [hnL]; decide) rfl 3 rfl ?_
  have := loop 28 0 rfl
  rw [gl_cpx_0, gl_up_self] at this
  exact this
/-- the younger one's log, asked for both tops -/
def gl_agO (I : Nat → Nat → Int32) (L : Nat → Nat → Int64) (lg n0 n1 : Nat) (t0 t1 : Nat → Int32) : Bool := gl_lk (gl_top (gl_ll (fun a e => gl_bs (fun i => I 2 (400 * lg + i)) (fun i => L 3 (400 * lg + i)) e a) n0 n0 0 [])) t0 8 && gl_lk (gl_top (gl_ll (fun a e => gl_bs (fun i => I 2 (400 * lg + i)) (fun i => L 3 (400 * lg + i)) e a) n1 (n1 - n0) n0 (gl_ll (fun a e => gl_bs (fun i => I 2 (400 * lg + i)) (fun i => L 3 (400 * lg + i)) e a) n0 n0 0 []))) t1 8
def gl_agree (I : Nat → Nat → Int32) (L : Nat → Nat → Int64) (na nb la lb : Nat) (ta ua tb ub : Nat → Int32) : Bool := if na = nb then gl_lk ta tb 8 && gl_lk ua ub 8 else if na < nb then gl_agO I L lb na nb ta tb else gl_agO I L la nb na tb ta
set_option maxHeartbeats 4000000 in
set_option maxRecDepth 100000 in
theorem ct_X9_agree {l : Launch} {δ : gl_Del} {I : Nat → Nat → Int32} {L : Nat → Nat → Int64} {B : Nat → Nat → Bool} {x y nx ny p q na nb la lb : Nat} (h : Nat) (hh : 15 ≤ h) (hx : gl_msh x = (0, nx)) (hp : p + 28 ≤ nx) (hnx : nx < 2 ^ 31) (bx : x ∉ [0, 39, 40, 41, 42, 43, 44, 45, 46, 57]) (hy : gl_msh y = (0, ny)) (hq : q + 28 ≤ ny) (hny : ny < 2 ^ 31) (by_ : y ∉ [0, 39, 40, 41, 42, 43, 44, 45, 46, 57]) (hna : I x p = nI na) (hnb : I y q = nI nb) (hla : I x (p + 1) = nI la) (hlb : I y (q + 1) = nI lb) (hla6 : la < 6) (hlb6 : lb < 6) (hna4 : na ≤ 400) (hnb4 : nb ≤ 400) : gl_Ct l δ yX9_agree (ws_ yX9_agree cX9_agree 10 ((some FieldType.boolean))) (gl_rm h 0 0) 0 0 [.ref 0, .ref x, .int (nI p), .ref y, .int (nI q)] (gl_mL, I, L, B, gl_mR) (gl_Qi fun r S => r = b2i (gl_agree I L na nb la lb (fun t => I x (p + 4 + t)) (fun t => I x (p + 12 + t)) (fun t => I y (q + 4 + t)) (fun t => I y (q + 12 + t))) ∧ ∃ I', S = (gl_mL, I', L, B, gl_mR) ∧ gl_fq [39, 40, 41, 42, 43, 44, 45, 46, 57] [49] I I') := by
  refine gl_of (by decide) (Nat.le_of_ble_eq_true rfl) rfl ?_
  intro κ C hQ hlκ hδκ hnL hini
  change gl_Cx κ RX9 _ _ _ at C
  have main : ∀ (b5 : Bool) (y1 y2 ny1 ny2 p1 p2_ n0 n1 lg : Nat), gl_msh y1 = (0, ny1) → p1 + 28 ≤ ny1 → ny1 < 2 ^ 31 → y1 ∉ [0, 39, 40, 41, 42, 43, 44, 45, 46, 57] → gl_msh y2 = (0, ny2) → p2_ + 28 ≤ ny2 → ny2 < 2 ^ 31 → y2 ∉ [0, 39, 40, 41, 42, 43, 44, 45, 46, 57] → I y1 p1 = nI n0 → I y2 p2_ = nI n1 → I y2 (p2_ + 1) = nI lg → lg < 6 → n0 < n1 → n1 ≤ 400 → gl_agO I L lg n0 n1 (fun t => I y1 (p1 + 4 + t)) (fun t => I y2 (p2_ + 4 + t)) = (gl_agree I L na nb la lb (fun t => I x (p + 4 + t)) (fun t => I x (p + 12 + t)) (fun t => I y (q + 4 + t)) (fun t => I y (q + 12 + t))) → gl_J κ 0 0 (gl_mL, I, L, B, gl_mR) 115 [some (.ref 0), some (.ref x), some (.int (nI p)), some (.ref y), some (.int (nI q)), some (.int (b2i b5)), some (.ref y1), some (.int (nI p1)), some (.ref y2), some (.int (nI p2_))] [] := by
    intro b5 y1 y2 ny1 ny2 p1 p2_ n0 n1 lg hy1 hp1 hny1 by1 hy2 hp2 hny2 by2 hn1 hn2 hl2 hlg h01 h14 htg
    refine j_aload_n C dX9_agree_115 rfl 116 rfl ?_
    refine j_iconst (v := nI 0) C dX9_agree_116 (by decide) 117 rfl ?_
    refine pf_X9_208 C rfl dX9_agree_117 120 rfl ?_
    refine j_aload_n C dX9_agree_120 rfl 121 rfl ?_
    refine j_aload C dX9_agree_121 rfl 123 rfl ?_
    refine j_iload C dX9_agree_123 rfl 125 rfl ?_
    refine j_iconst (v := nI 1) C dX9_agree_125 (by decide) 126 rfl ?_
    refine n_iadd C dX9_agree_126 127 rfl ?_
    refine j_iald C hy2 (by omega) hny2 dX9_agree_127 128 rfl ?_
    rw [gl_u2_ne (show y2 ≠ 0 from fun q => by2 (by rw [q]; decide)), hl2]
    refine j_iconst (v := nI 0) C dX9_agree_128 (by decide) 129 rfl ?_
    refine j_aload C dX9_agree_129 rfl 131 rfl ?_
    refine j_iload C dX9_agree_131 rfl 133 rfl ?_
    refine j_iald C hy1 (by omega) hny1 dX9_agree_133 134 rfl ?_
    rw [gl_u2_ne (show y1 ≠ 0 from fun q => by1 (by rw [q]; decide)), hn1]
    refine j_cv C (cs_X9_254 C (ct_X9_layLog (I := gl_u2 I 0 49 (nI 0)) (p0 := []) (lg := lg) (a0 := 0) (b := n0) (h - 1) (by omega) hlg ⟨by rw [gl_u2_eq, gl_up_eq]; rfl, trivial⟩ rfl trivial (Nat.zero_le _) (by omega)) rfl rfl (by omega) (by omega) (by omega) rfl (Nat.le_of_ble_eq_true rfl) dX9_agree_134) 137 rfl ?_
    rintro _ ⟨I2, rfl, f2, p2⟩
    rw [gl_u2_ne (show (2 : Nat) ≠ 0 by decide), Nat.sub_zero] at p2
    have sz2 := gl_ll_inv (f := (fun a e => gl_bs (fun i => I 2 (400 * lg + i)) (fun i => L 3 (400 * lg + i)) e a)) (b := n0) n0 0 [] (by omega) (Nat.zero_le _) rfl trivial
    have ln2 := gl_inc_len sz2.2 (by decide) (by omega)
    have q2 : gl_fq [39, 40, 41, 42, 43, 44, 45, 46, 57] [49] I I2 := (gl_fq.rf.sc (by decide)).tr (f2.mo (by decide) (by decide))
    refine j_aload_n C dX9_agree_137 rfl 138 rfl ?_
    refine j_aload_n C dX9_agree_138 rfl 139 rfl ?_
    refine gf_X9_181 C rfl rfl dX9_agree_139 142 rfl ?_
    refine j_iconst (v := nI 0) C dX9_agree_142 (by decide) 143 rfl ?_
    refine j_cv C (cs_X9_258 C (ct_X9_top (I := I2) (p := (gl_ll (fun a e => gl_bs (fun i => I 2 (400 * lg + i)) (fun i => L 3 (400 * lg + i)) e a) n0 n0 0 [])) (to := 57) (nt := 8) (at_ := 0) (h - 1) (by omega) p2 (by omega) rfl (by decide) (by decide) (by decide) (by decide) (by decide) (by decide) (by decide)) rfl rfl (by omega) (by omega) (by omega) rfl (Nat.le_of_ble_eq_true rfl) dX9_agree_143) 146 rfl ?_
    rintro _ ⟨I3, rfl, f3, r3⟩
    have q3 : gl_fq [39, 40, 41, 42, 43, 44, 45, 46, 57] [49] I I3 := q2.tr (f3.mo (by decide) (by decide))
    have p3 := gl_mp_fq p2 f3 (by decide) (by decide)
    have e1 : I3 y1 = I y1 := q3.1 y1 (fun q => by1 (by rw [q]; decide)) (fun q => by1 (List.mem_cons_of_mem _ q))
    have e2 : I3 y2 = I y2 := q3.1 y2 (fun q => by2 (by rw [q]; decide)) (fun q => by2 (List.mem_cons_of_mem _ q))
    refine j_aload_n C dX9_agree_146 rfl 147 rfl ?_
    refine gf_X9_181 C rfl rfl dX9_agree_147 150 rfl ?_
    refine j_iconst (v := nI 0) C dX9_agree_150 (by decide) 151 rfl ?_
    refine j_aload C dX9_agree_151 rfl 153 rfl ?_
    refine j_iload C dX9_agree_153 rfl 155 rfl ?_
    refine j_iconst (v := nI 4) C dX9_agree_155 (by decide) 156 rfl ?_
    refine n_iadd C dX9_agree_156 157 rfl ?_
    refine j_ci C (cs_X9_318 C (ct_X9_areLike (Λ := gl_mL) (R := gl_mR) (I := I3) (x := 57) (nx := 8) (p := 0) (y := y1) (ny := ny1) (q := p1 + 4) (h - 1) (by omega) rfl (by omega) (by decide) hy1 (by omega) hny1) rfl (by omega) (by omega) (by omega) rfl (Nat.le_of_ble_eq_true rfl) dX9_agree_157) 160 rfl ?_
    rintro _ _ ⟨rfl, rfl⟩
    rw [gl_lk_congr (f' := gl_top (gl_ll (fun a e => gl_bs (fun i => I 2 (400 * lg + i)) (fun i => L 3 (400 * lg + i)) e a) n0 n0 0 [])) (g' := fun t => I y1 (p1 + 4 + t)) 8 (fun t ht => by rw [Nat.zero_add, r3, gl_cpy_lt ht]) (fun t ht => by rw [e1])]
    refine b_if_ne C 165 163 dX9_agree_160 (by decide) rfl (fun c_160 => ?_) (fun c_160 => ?_)
    · refine j_aload_n C dX9_agree_165 rfl 166 rfl ?_
      refine j_aload C dX9_agree_166 rfl 168 rfl ?_
      refine j_iload C dX9_agree_168 rfl 170 rfl ?_
      refine j_iconst (v := nI 1) C dX9_agree_170 (by decide) 171 rfl ?_
      refine n_iadd C dX9_agree_171 172 rfl ?_
      refine j_iald C hy2 (by omega) hny2 dX9_agree_172 173 rfl ?_
      rw [e2, hl2]
      refine j_aload C dX9_agree_173 rfl 175 rfl ?_
      refine j_iload C dX9_agree_175 rfl 177 rfl ?_
      refine j_iald C hy1 (by omega) hny1 dX9_agree_177 178 rfl ?_
      rw [e1, hn1]
      refine j_aload C dX9_agree_178 rfl 180 rfl ?_
      refine j_iload C dX9_agree_180 rfl 182 rfl ?_
      refine j_iald C hy2 (by omega) hny2 dX9_agree_182 183 rfl ?_
      rw [e2, hn2]
      refine j_cv C (cs_X9_254 C (ct_X9_layLog (I := I3) (p0 := (gl_ll (fun a e => gl_bs (fun i => I 2 (400 * lg + i)) (fun i => L 3 (400 * lg + i)) e a) n0 n0 0 [])) (lg := lg) (a0 := n0) (b := n1) (h - 1) (by omega) hlg p3 sz2.1 sz2.2 (by omega) (by omega)) rfl rfl (by omega) (by omega) (by omega) rfl (Nat.le_of_ble_eq_true rfl) dX9_agree_183) 186 rfl ?_
      rintro _ ⟨I4, rfl, f4, p4⟩
      rw [q3.1 2 (by decide) (by decide)] at p4
      have sz4 := gl_ll_inv (f := (fun a e => gl_bs (fun i => I 2 (400 * lg + i)) (fun i => L 3 (400 * lg + i)) e a)) (b := n1) (n1 - n0) n0 (gl_ll (fun a e => gl_bs (fun i => I 2 (400 * lg + i)) (fun i => L 3 (400 * lg + i)) e a) n0 n0 0 []) (by omega) (by omega) sz2.1 sz2.2
      have ln4 := gl_inc_len sz4.2 (by decide) (by omega)
      have q4 : gl_fq [39, 40, 41, 42, 43, 44, 45, 46, 57] [49] I I4 := q3.tr (f4.mo (by decide) (by decide))
      refine j_aload_n C dX9_agree_186 rfl 187 rfl ?_
      refine j_aload_n C dX9_agree_187 rfl 188 rfl ?_
      refine gf_X9_181 C rfl rfl dX9_agree_188 191 rfl ?_
      refine j_iconst (v := nI 0) C dX9_agree_191 (by decide) 192 rfl ?_
      refine j_cv C (cs_X9_258 C (ct_X9_top (I := I4) (p := (gl_ll (fun a e => gl_bs (fun i => I 2 (400 * lg + i)) (fun i => L 3 (400 * lg + i)) e a) n1 (n1 - n0) n0 (gl_ll (fun a e => gl_bs (fun i => I 2 (400 * lg + i)) (fun i => L 3 (400 * lg + i)) e a) n0 n0 0 []))) (to := 57) (nt := 8) (at_ := 0) (h - 1) (by omega) p4 (by omega) rfl (by decide) (by decide) (by decide) (by decide) (by decide) (by decide) (by decide)) rfl rfl (by omega) (by omega) (by omega) rfl (Nat.le_of_ble_eq_true rfl) dX9_agree_192) 195 rfl ?_
      rintro _ ⟨I5, rfl, f5, r5⟩
      have q5 : gl_fq [39, 40, 41, 42, 43, 44, 45, 46, 57] [49] I I5 := q4.tr (f5.mo (by decide) (by decide))
      have e5 : I5 y2 = I y2 := q5.1 y2 (fun q => by2 (by rw [q]; decide)) (fun q => by2 (List.mem_cons_of_mem _ q))
      refine j_aload_n C dX9_agree_195 rfl 196 rfl ?_
      refine gf_X9_181 C rfl rfl dX9_agree_196 199 rfl ?_
      refine j_iconst (v := nI 0) C dX9_agree_199 (by decide) 200 rfl ?_
      refine j_aload C dX9_agree_200 rfl 202 rfl ?_
      refine j_iload C dX9_agree_202 rfl 204 rfl ?_
      refine j_iconst (v := nI 4) C dX9_agree_204 (by decide) 205 rfl ?_
      refine n_iadd C dX9_agree_205 206 rfl ?_
      refine j_ci C (cs_X9_318 C (ct_X9_areLike (Λ := gl_mL) (R := gl_mR) (I := I5) (x := 57) (nx := 8) (p := 0) (y := y2) (ny := ny2) (q := p2_ + 4) (h - 1) (by omega) rfl (by omega) (by decide) hy2 (by omega) hny2) rfl (by omega) (by omega) (by omega) rfl (Nat.le_of_ble_eq_true rfl) dX9_agree_206) 209 rfl ?_
      rintro _ _ ⟨rfl, rfl⟩
      rw [gl_lk_congr (f' := gl_top (gl_ll (fun a e => gl_bs (fun i => I 2 (400 * lg + i)) (fun i => L 3 (400 * lg + i)) e a) n1 (n1 - n0) n0 (gl_ll (fun a e => gl_bs (fun i => I 2 (400 * lg + i)) (fun i => L 3 (400 * lg + i)) e a) n0 n0 0 []))) (g' := fun t => I y2 (p2_ + 4 + t)) 8 (fun t ht => by rw [Nat.zero_add, r5, gl_cpy_lt ht]) (fun t ht => by rw [e5])]
      exact j_zret C hQ ⟨by rw [← htg, gl_agO, c_160]; rfl, _, rfl, q5⟩ (by omega) (by omega) dX9_agree_209
    · refine j_iconst (v := b2i false) C dX9_agree_163 (by decide) 164 rfl ?_
      exact j_zret C hQ ⟨by rw [← htg, gl_agO, c_160]; rfl, _, rfl, q3⟩ (by omega) (by omega) dX9_agree_164
  refine j_aload_n C dX9_agree_0 rfl 1 rfl ?_
  refine j_iload_n C dX9_agree_1 rfl 2 rfl ?_
  refine j_iald C hx (by omega) hnx dX9_agree_2 3 rfl ?_
  rw [hna]
  refine j_aload_n C dX9_agree_3 rfl 4 rfl ?_
  refine j_iload C dX9_agree_4 rfl 6 rfl ?_
  refine j_iald C hy (by omega) hny dX9_agree_6 7 rfl ?_
  rw [hnb]
  refine n_icmp_ne C 48 10 dX9_agree_7 (by decide) rfl (by omega) (by omega) (fun c_7 => ?_) (fun c_7 => ?_)
  · refine j_aload_n C dX9_agree_48 rfl 49 rfl ?_
    refine j_iload_n C dX9_agree_49 rfl 50 rfl ?_
    refine j_iald C hx (by omega) hnx dX9_agree_50 51 rfl ?_
    rw [hna]
    refine j_aload_n C dX9_agree_51 rfl 52 rfl ?_
    refine j_iload C dX9_agree_52 rfl 54 rfl ?_
    refine j_iald C hy (by omega) hny dX9_agree_54 55 rfl ?_
    rw [hnb]
    refine n_icmp_ge C 62 58 dX9_agree_55 (by decide) rfl (by omega) (by omega) (fun c_55 => ?_) (fun c_55 => ?_)
    · refine j_iconst (v := b2i false) C dX9_agree_62 (by decide) 63 rfl ?_
      refine j_istore C dX9_agree_63 (Nat.le_of_ble_eq_true rfl) (by rw [hnL]; decide) rfl 65 rfl ?_
      refine j_iload C dX9_agree_65 rfl 67 rfl ?_
      refine b_if_eq C 74 70 dX9_agree_67 (by decide) rfl (fun c_67 => ?_) (fun c_67 => ?_)
      · refine j_aload_n C dX9_agree_74 rfl 75 rfl ?_
        refine j_astore C dX9_agree_75 (Nat.le_of_ble_eq_true rfl) (by rw [hnL]; decide) rfl 77 rfl ?_
        refine j_iload C dX9_agree_77 rfl 79 rfl ?_
        refine b_if_eq C 86 82 dX9_agree_79 (by decide) rfl (fun c_79 => ?_) (fun c_79 => ?_)
        · refine j_iload C dX9_agree_86 rfl 88 rfl ?_
          refine j_istore C dX9_agree_88 (Nat.le_of_ble_eq_true rfl) (by rw [hnL]; decide) rfl 90 rfl ?_
          refine j_iload C dX9_agree_90 rfl 92 rfl ?_
          refine b_if_eq C 99 95 dX9_agree_92 (by decide) rfl (fun c_92 => ?_) (fun c_92 => ?_)
          · refine j_aload_n C dX9_agree_99 rfl 100 rfl ?_
            refine j_astore C dX9_agree_100 (Nat.le_of_ble_eq_true rfl) (by rw [hnL]; decide) rfl 102 rfl ?_
            refine j_iload C dX9_agree_102 rfl 104 rfl ?_
            refine b_if_eq C 112 107 dX9_agree_104 (by decide) rfl (fun c_104 => ?_) (fun c_104 => ?_)
            · refine j_iload_n C dX9_agree_112 rfl 113 rfl ?_
              refine j_istore C dX9_agree_113 (Nat.le_of_ble_eq_true rfl) (by rw [hnL]; decide) rfl 115 rfl ?_
              exact main false y x ny nx q p nb na la hy hq hny by_ hx hp hnx bx hnb hna hla hla6 (by omega) hna4 (by rw [gl_agree, if_neg c_7, if_neg (by omega)])
            · exact absurd c_104 (by decide)
          · exact absurd c_92 (by decide)
        · exact absurd c_79 (by decide)
      · exact absurd c_67 (by decide)
    · refine j_iconst (v := b2i true) C dX9_agree_58 (by decide) 59 rfl ?_
      refine j_goto (tgt := 63) C dX9_agree_59 (by decide) ?_
      refine j_istore C dX9_agree_63 (Nat.le_of_ble_eq_true rfl) (by rw [hnL]; decide) rfl 65 rfl ?_
      refine j_iload C dX9_agree_65 rfl 67 rfl ?_
      refine b_if_eq C 74 70 dX9_agree_67 (by decide) rfl (fun c_67 => ?_) (fun c_67 => ?_)
      · exact absurd c_67 (by decide)
      · refine j_aload_n C dX9_agree_70 rfl 71 rfl ?_
        refine j_goto (tgt := 75) C dX9_agree_71 (by decide) ?_
        refine j_astore C dX9_agree_75 (Nat.le_of_ble_eq_true rfl) (by rw [hnL]; decide) rfl 77 rfl ?_
        refine j_iload C dX9_agree_77 rfl 79 rfl ?_
        refine b_if_eq C 86 82 dX9_agree_79 (by decide) rfl (fun c_79 => ?_) (fun c_79 => ?_)
        · exact absurd c_79 (by decide)
        · refine j_iload_n C dX9_agree_82 rfl 83 rfl ?_
          refine j_goto (tgt := 88) C dX9_agree_83 (by decide) ?_
          refine j_istore C dX9_agree_88 (Nat.le_of_ble_eq_true rfl) (by rw [hnL]; decide) rfl 90 rfl ?_
          refine j_iload C dX9_agree_90 rfl 92 rfl ?_
          refine b_if_eq C 99 95 dX9_agree_92 (by decide) rfl (fun c_92 => ?_) (fun c_92 => ?_)
          · exact absurd c_92 (by decide)
          · refine j_aload_n C dX9_agree_95 rfl 96 rfl ?_
            refine j_goto (tgt := 100) C dX9_agree_96 (by decide) ?_
            refine j_astore C dX9_agree_100 (Nat.le_of_ble_eq_true rfl) (by rw [hnL]; decide) rfl 102 rfl ?_
            refine j_iload C dX9_agree_102 rfl 104 rfl ?_
            refine b_if_eq C 112 107 dX9_agree_104 (by decide) rfl (fun c_104 => ?_) (fun c_104 => ?_)
            · exact absurd c_104 (by decide)
            · refine j_iload C dX9_agree_107 rfl 109 rfl ?_
              refine j_goto (tgt := 113) C dX9_agree_109 (by decide) ?_
              refine j_istore C dX9_agree_113 (Nat.le_of_ble_eq_true rfl) (by rw [hnL]; decide) rfl 115 rfl ?_
              exact main true x y nx ny p q na nb lb hx hp hnx bx hy hq hny by_ hna hnb hlb hlb6 (by omega) hnb4 (by rw [gl_agree, if_neg c_7, if_pos (by omega)])
  · refine j_aload_n C dX9_agree_10 rfl 11 rfl ?_
    refine j_iload_n C dX9_agree_11 rfl 12 rfl ?_
    refine j_iconst (v := nI 4) C dX9_agree_12 (by decide) 13 rfl ?_
    refine n_iadd C dX9_agree_13 14 rfl ?_
    refine j_aload_n C dX9_agree_14 rfl 15 rfl ?_
    refine j_iload C dX9_agree_15 rfl 17 rfl ?_
    refine j_iconst (v := nI 4) C dX9_agree_17 (by decide) 18 rfl ?_
    refine n_iadd C dX9_agree_18 19 rfl ?_
    refine j_ci C (cs_X9_318 C (ct_X9_areLike (Λ := gl_mL) (R := gl_mR) (I := I) (x := x) (nx := nx) (p := p + 4) (y := y) (ny := ny) (q := q + 4) (h - 1) (by omega) hx (by omega) hnx hy (by omega) hny) rfl (by omega) (by omega) (by omega) rfl (Nat.le_of_ble_eq_true rfl) dX9_agree_19) 22 rfl ?_
    rintro _ _ ⟨rfl, rfl⟩
    refine b_if_eq C 46 25 dX9_agree_22 (by decide) rfl (fun c_22 => ?_) (fun c_22 => ?_)
    · refine j_iconst (v := b2i false) C dX9_agree_46 (by decide) 47 rfl ?_
      exact j_zret C hQ ⟨by rw [gl_agree, if_pos c_7, c_22]; rfl, _, rfl, gl_fq.rf⟩ (by omega) (by omega) dX9_agree_47
    · refine j_aload_n C dX9_agree_25 rfl 26 rfl ?_
      refine j_iload_n C dX9_agree_26 rfl 27 rfl ?_
      refine j_bipush (v := nI 12) C dX9_agree_27 (by decide) 29 rfl ?_
      refine n_iadd C dX9_agree_29 30 rfl ?_
      refine j_aload_n C dX9_agree_30 rfl 31 rfl ?_
      refine j_iload C dX9_agree_31 rfl 33 rfl ?_
      refine j_bipush (v := nI 12) C dX9_agree_33 (by decide) 35 rfl ?_
      refine n_iadd C dX9_agree_35 36 rfl ?_
      refine j_ci C (cs_X9_318 C (ct_X9_areLike (Λ := gl_mL) (R := gl_mR) (I := I) (x := x) (nx := nx) (p := p + 12) (y := y) (ny := ny) (q := q + 12) (h - 1) (by omega) hx (by omega) hnx hy (by omega) hny) rfl (by omega) (by omega) (by omega) rfl (Nat.le_of_ble_eq_true rfl) dX9_agree_36) 39 rfl ?_
      rintro _ _ ⟨rfl, rfl⟩
      refine b_if_eq C 46 42 dX9_agree_39 (by decide) rfl (fun c_39 => ?_) (fun c_39 => ?_)
      · refine j_iconst (v := b2i false) C dX9_agree_46 (by decide) 47 rfl ?_
        exact j_zret C hQ ⟨by rw [gl_agree, if_pos c_7, c_22, c_39]; rfl, _, rfl, gl_fq.rf⟩ (by omega) (by omega) dX9_agree_47
      · refine j_iconst (v := b2i true) C dX9_agree_42 (by decide) 43 rfl ?_
        refine j_goto (tgt := 47) C dX9_agree_43 (by decide) ?_
        exact j_zret C hQ ⟨by rw [gl_agree, if_pos c_7, c_22, c_39]; rfl, _, rfl, gl_fq.rf⟩ (by omega) (by omega) dX9_agree_47
