/-! MODULE Model, slots: span, proof, forge, head asked (by gen46.py) -/
set_option maxRecDepth 100000
/-- none of c from i on is gone -/
def gl_ng (g : Nat → Bool) (base : Nat) : Nat → Nat → Bool
  | 0, _ => true
  | c + 1, i => !g (base + i) && gl_ng g base c (i + 1)
theorem gl_cpy_sG {α : Type} {a b : Nat → α} {dp k : Nat} : va_up (va_cpy a b 0 dp k) (dp + k) (a k) = va_cpy a b 0 dp (k + 1) := by
  funext i
  unfold va_up va_cpy
  by_cases h : i = dp + k
  · subst h
    simp
  · by_cases h2 : dp ≤ i ∧ i < dp + k
    · rw [if_neg h, if_pos h2, if_pos ⟨h2.1, by omega⟩]
    · rw [if_neg h, if_neg h2, if_neg (by omega)]
/-- span -/
def gl_sok (I : Nat → Nat → Int32) (B : Nat → Nat → Bool) (lm : Nat) (x y n a b : Int32) : Bool := gl_in x 16 && (gl_ic I lm y n && (gl_in b (n.toNatClampNeg + 1) && (gl_in a (b.toNatClampNeg + 1) && (decide (b.toNatClampNeg - a.toNatClampNeg ≤ 40) && gl_ng (B 4) (400 * y.toNatClampNeg) (b.toNatClampNeg - a.toNatClampNeg) a.toNatClampNeg))))
def gl_span (I : Nat → Nat → Int32) (L : Nat → Nat → Int64) (B : Nat → Nat → Bool) (lm : Nat) (x y n a b r : Int32) (S : gl_Sto) : Prop := if gl_sok I B lm x y n a b = true then (r = nI (gl_lrws I L y.toNatClampNeg 0 a.toNatClampNeg ++ gl_lrws I L y.toNatClampNeg b.toNatClampNeg n.toNatClampNeg).length ∧ ∃ I', S = (gl_mL, I', va_up L 11 (va_cpy (fun t => L 3 (400 * y.toNatClampNeg + (a.toNatClampNeg + t))) (L 11) 0 (40 * x.toNatClampNeg) (b.toNatClampNeg - a.toNatClampNeg)), B, gl_mR) ∧ gl_sP [9, 10, 12, 39, 40, 41, 46] [] I I' x.toNatClampNeg (nI 5) n a b (gl_lrws I L y.toNatClampNeg 0 a.toNatClampNeg ++ gl_lrws I L y.toNatClampNeg b.toNatClampNeg n.toNatClampNeg) ∧ I' 10 = va_cpy (fun t => I 2 (400 * y.toNatClampNeg + (a.toNatClampNeg + t))) (I 10) 0 (40 * x.toNatClampNeg) (b.toNatClampNeg - a.toNatClampNeg)) else (r = -1 ∧ S = (gl_mL, I, L, B, gl_mR))
theorem gl_span_no {I : Nat → Nat → Int32} {B : Nat → Nat → Bool} {lm j : Nat} {x y n b : Int32} (hj : j < 2 ^ 31) (h : b < nI j) (q : gl_sok I B lm x y n (nI j) b = true) : False := by
  unfold gl_sok at q
  simp only [Bool.and_eq_true] at q
  obtain ⟨-, -, h1, h2, -⟩ := q
  by_cases hb : b < 0
  · rw [gl_in_f1 hb] at h1; cases h1
  · obtain ⟨k, hk, rfl⟩ := nI_of hb
    rw [nI_clamp hk] at h2
    by_cases hq : k + 1 < 2 ^ 31
    · rw [gl_in_nI hj hq, decide_eq_true_iff] at h2
      have := (nI_ltI hk hj).mp h
      omega
    · have := (nI_ltI hk hj).mp h
      omega
set_option maxHeartbeats 4000000 in
set_option maxRecDepth 100000 in
theorem ct_X9_span {l : Launch} {δ : gl_Del} {I : Nat → Nat → Int32} {L : Nat → Nat → Int64} {B : Nat → Nat → Bool} {lm : Nat} {mn hd ld : Nat → Nat} {sn : Nat → Nat → Nat} {x y n a b : Int32} (h : Nat) (hh : 15 ≤ h) (H : gl_LI I lm mn hd ld sn) : gl_Ct l δ yX9_span (ws_ yX9_span cX9_span 7 ((some FieldType.int))) (gl_rm h 0 0) 0 0 [.ref 0, .int x, .int y, .int n, .int a, .int b] (gl_mL, I, L, B, gl_mR) (gl_Qi fun r S => gl_span I L B lm x y n a b r S) := by
  refine gl_of (by decide) (Nat.le_of_ble_eq_true rfl) rfl ?_
  intro κ C hQ hlκ hδκ hnL hini
  change gl_Cx κ RX9 _ _ _ at C
  have hlm6 : lm ≤ 6 := H.2.1
  refine j_aload_n C dX9_span_0 rfl 1 rfl ?_
  refine j_iload_n C dX9_span_1 rfl 2 rfl ?_
  refine j_ci C (cs_X9_292 C (ct_X9_isSlot (h - 1) (by omega)) rfl rfl (by omega) (by omega) (by omega) rfl (Nat.le_of_ble_eq_true rfl) dX9_span_2) 5 rfl ?_
  rintro _ _ ⟨rfl, rfl⟩
  refine b_if_eq C 45 8 dX9_span_5 (by decide) rfl (fun c_5 => ?_) (fun c_5 => ?_)
  · refine j_iconst (v := -1) C dX9_span_45 (by decide) 46 rfl ?_
    exact j_iret C hQ (by rw [gl_span, if_neg (by rw [gl_sok, c_5]; simp)]; exact ⟨rfl, rfl⟩) (by omega) (by omega) dX9_span_46
  · obtain ⟨s, hs, rfl⟩ := (gl_in_iff (by decide)).mp c_5
    have hcs : (nI s).toNatClampNeg = s := nI_clamp (by omega)
    refine j_aload_n C dX9_span_8 rfl 9 rfl ?_
    refine j_iload_n C dX9_span_9 rfl 10 rfl ?_
    refine j_iload_n C dX9_span_10 rfl 11 rfl ?_
    refine j_ci C (cs_X9_277 C (ct_X9_isCount (h - 1) (by omega) H.1 H.2.1) rfl rfl (by omega) (by omega) (by omega) rfl (Nat.le_of_ble_eq_true rfl) dX9_span_11) 14 rfl ?_
    rintro _ _ ⟨rfl, rfl⟩
    refine b_if_eq C 45 17 dX9_span_14 (by decide) rfl (fun c_14 => ?_) (fun c_14 => ?_)
    · refine j_iconst (v := -1) C dX9_span_45 (by decide) 46 rfl ?_
      exact j_iret C hQ (by rw [gl_span, if_neg (by rw [gl_sok, c_5, c_14]; simp)]; exact ⟨rfl, rfl⟩) (by omega) (by omega) dX9_span_46
    · obtain ⟨lg, m, hlg, hm, rfl, rfl⟩ := (gl_ic_iff H).mp c_14
      have hk := H.2.2 lg hlg
      have hcl : (nI lg).toNatClampNeg = lg := nI_clamp (by omega)
      have hcm : (nI m).toNatClampNeg = m := nI_clamp (by omega)
      refine j_iload C dX9_span_17 rfl 19 rfl ?_
      refine j_if_lt C 45 22 dX9_span_19 (by decide) rfl (fun c_19 => ?_) (fun c_19 => ?_)
      · refine j_iconst (v := -1) C dX9_span_45 (by decide) 46 rfl ?_
        exact j_iret C hQ (by rw [gl_span, if_neg (by rw [gl_sok, c_5, c_14, gl_in_f1 c_19]; simp)]; exact ⟨rfl, rfl⟩) (by omega) (by omega) dX9_span_46
      · obtain ⟨j, hj, rfl⟩ := nI_of c_19
        have hcj : (nI j).toNatClampNeg = j := nI_clamp hj
        refine j_iload C dX9_span_22 rfl 24 rfl ?_
        refine j_iload C dX9_span_24 rfl 26 rfl ?_
        refine j_icmp_gt C 45 29 dX9_span_26 (by decide) rfl (fun c_26 => ?_) (fun c_26 => ?_)
        · refine j_iconst (v := -1) C dX9_span_45 (by decide) 46 rfl ?_
          exact j_iret C hQ (by rw [gl_span, if_neg (fun q => gl_span_no hj c_26 q)]; exact ⟨rfl, rfl⟩) (by omega) (by omega) dX9_span_46
        · obtain ⟨k, hkk, rfl⟩ := nI_of (x := b) (fun q => c_26 (Int32.lt_of_lt_of_le q (nI_pos' hj)))
          have hck : (nI k).toNatClampNeg = k := nI_clamp hkk
          have hjk : j ≤ k := Nat.not_lt.mp (fun q => c_26 ((nI_ltI hkk hj).mpr q))
          refine j_iload C dX9_span_29 rfl 31 rfl ?_
          refine j_iload_n C dX9_span_31 rfl 32 rfl ?_
          refine n_icmp_gt C 45 35 dX9_span_32 (by decide) rfl hkk (by omega) (fun c_32 => ?_) (fun c_32 => ?_)
          · refine j_iconst (v := -1) C dX9_span_45 (by decide) 46 rfl ?_
            exact j_iret C hQ (by rw [gl_span, if_neg (by rw [gl_sok, c_5, c_14, hcm, gl_in_nI hkk (by omega), decide_eq_false (by omega)]; simp)]; exact ⟨rfl, rfl⟩) (by omega) (by omega) dX9_span_46
          · refine j_iload C dX9_span_35 rfl 37 rfl ?_
            refine j_iload C dX9_span_37 rfl 39 rfl ?_
            refine n_isub C dX9_span_39 (by omega) 40 rfl ?_
            refine j_bipush (v := nI 40) C dX9_span_40 (by decide) 42 rfl ?_
            refine n_icmp_le C 47 45 dX9_span_42 (by decide) rfl (by omega) (by omega) (fun c_42 => ?_) (fun c_42 => ?_)
            · have copy : gl_sok I B lm (nI s) (nI lg) (nI m) (nI j) (nI k) = true → ∀ c t : Nat, t + c = k - j → gl_J κ 0 0 (gl_mL, va_up (va_up I 9 (gl_bg (I 9) s (nI 5) (nI m) (nI j) (nI k))) 10 (va_cpy (fun t => I 2 (400 * lg + (j + t))) (I 10) 0 (40 * s) t), va_up L 11 (va_cpy (fun t => L 3 (400 * lg + (j + t))) (L 11) 0 (40 * s) t), B, gl_mR) 97 [some (.ref 0), some (.int (nI s)), some (.int (nI lg)), some (.int (nI m)), some (.int (nI j)), some (.int (nI k)), some (.int (nI (j + t)))] [] := by
                intro hok c
                induction c with
                | zero =>
                  intro t ht
                  have htN : t = k - j := by omega
                  subst htN
                  have e : j + (k - j) = k := by omega
                  rw [e]
                  refine j_iload C dX9_span_97 rfl 99 rfl ?_
                  refine j_iload C dX9_span_99 rfl 101 rfl ?_
                  refine n_icmp_ge C 166 104 dX9_span_101 (by decide) rfl (by omega) (by omega) (fun c_101 => ?_) (fun c_101 => ?_)
                  · refine j_aload_n C dX9_span_166 rfl 167 rfl ?_
                    refine j_iload_n C dX9_span_167 rfl 168 rfl ?_
                    refine j_iload_n C dX9_span_168 rfl 169 rfl ?_
                    refine j_iconst (v := nI 0) C dX9_span_169 (by decide) 170 rfl ?_
                    refine j_iload C dX9_span_170 rfl 172 rfl ?_
                    refine j_cv C (cs_X9_299 C (ct_X9_stepLog (I := va_up (va_up I 9 (gl_bg (I 9) s (nI 5) (nI m) (nI j) (nI k))) 10 (va_cpy (fun t => I 2 (400 * lg + (j + t))) (I 10) 0 (40 * s) (k - j))) (s := s) (lg := lg) (a0 := 0) (b := j) (m := 0) (h - 1) (by omega) hs (by omega) (by omega) (by omega) (by rw [gl_up_ne (show (9 : Nat) ≠ 10 by decide), gl_up_eq, gl_bg_1]) (by omega)) rfl rfl (by omega) (by omega) (by omega) rfl (Nat.le_of_ble_eq_true rfl) dX9_span_172) 175 rfl ?_
                    rintro _ ⟨I2, rfl, f2, a2, b2⟩
                    rw [gl_up_ne (show (2 : Nat) ≠ 10 by decide), gl_up_ne (show (2 : Nat) ≠ 9 by decide), gl_up_ne (show (3 : Nat) ≠ 11 by decide)] at a2 b2
                    have g2 : I2 2 = I 2 := by rw [f2.1 2 (by decide) (by decide), gl_up_ne (show (2 : Nat) ≠ 10 by decide), gl_up_ne (show (2 : Nat) ≠ 9 by decide)]
                    have l19 := gl_rws_len (K := fun i => I 2 (400 * lg + i)) (V := fun i => L 3 (400 * lg + i)) (a := 0) (b := j) (by omega) (Nat.zero_le _)
                    refine j_aload_n C dX9_span_175 rfl 176 rfl ?_
                    refine j_iload_n C dX9_span_176 rfl 177 rfl ?_
                    refine j_iload_n C dX9_span_177 rfl 178 rfl ?_
                    refine j_iload C dX9_span_178 rfl 180 rfl ?_
                    refine j_iload_n C dX9_span_180 rfl 181 rfl ?_
                    refine j_cv C (cs_X9_299 C (ct_X9_stepLog (I := I2) (s := s) (lg := lg) (a0 := k) (b := m) (m := 0 + (gl_rws (fun i => I 2 (400 * lg + i)) (fun i => L 3 (400 * lg + i)) 0 j).length) (h - 1) (by omega) hs (by omega) (by omega) (by omega) (by rw [a2, gl_up_eq]) (by omega)) rfl rfl (by omega) (by omega) (by omega) rfl (Nat.le_of_ble_eq_true rfl) dX9_span_181) 184 rfl ?_
                    rintro _ ⟨I3, rfl, f3, a3, b3⟩
                    rw [g2, gl_up_ne (show (3 : Nat) ≠ 11 by decide)] at a3 b3
                    have sp := gl_sP_2 (I := I) ((gl_fq.rf.up (by decide) (by decide)).up (by decide) (by decide)) (by rw [gl_up_ne (show (9 : Nat) ≠ 10 by decide), gl_up_eq]) (by rw [gl_up_ne (show (12 : Nat) ≠ 10 by decide), gl_up_ne (show (12 : Nat) ≠ 9 by decide)]) f2 a2 b2 f3 a3 b3
                    refine j_aload_n C dX9_span_184 rfl 185 rfl ?_
                    refine gf_X9_36 C rfl rfl dX9_span_185 188 rfl ?_
                    refine j_bipush (v := nI 8) C dX9_span_188 (by decide) 190 rfl ?_
                    refine j_iload_n C dX9_span_190 rfl 191 rfl ?_
                    refine n_imul C dX9_span_191 192 rfl ?_
                    refine j_iconst (v := nI 1) C dX9_span_192 (by decide) 193 rfl ?_
                    refine n_iadd C dX9_span_193 194 rfl ?_
                    refine j_iald C rfl (by omega) (by decide) dX9_span_194 195 rfl ?_
                    rw [sp.2.1, gl_up_eq]
                    exact j_iret C hQ (by rw [gl_span, if_pos hok, hcs, hcl, hcj, hck, hcm]; exact ⟨rfl, _, rfl, sp, by rw [f3.1 10 (by decide) (by decide), f2.1 10 (by decide) (by decide), gl_up_eq]⟩) (by omega) (by omega) dX9_span_195
                  · exact absurd c_101 (by omega)
                | succ c ih =>
                  intro t ht
                  refine j_iload C dX9_span_97 rfl 99 rfl ?_
                  refine j_iload C dX9_span_99 rfl 101 rfl ?_
                  refine n_icmp_ge C 166 104 dX9_span_101 (by decide) rfl (by omega) (by omega) (fun c_101 => ?_) (fun c_101 => ?_)
                  · exact absurd c_101 (by omega)
                  · refine j_aload_n C dX9_span_104 rfl 105 rfl ?_
                    refine gf_X9_39 C rfl rfl dX9_span_105 108 rfl ?_
                    refine j_bipush (v := nI 40) C dX9_span_108 (by decide) 110 rfl ?_
                    refine j_iload_n C dX9_span_110 rfl 111 rfl ?_
                    refine n_imul C dX9_span_111 112 rfl ?_
                    refine j_iload C dX9_span_112 rfl 114 rfl ?_
                    refine n_iadd C dX9_span_114 115 rfl ?_
                    refine j_iload C dX9_span_115 rfl 117 rfl ?_
                    refine n_isub C dX9_span_117 (by omega) 118 rfl ?_
                    rw [show 40 * s + (j + t) - j = 40 * s + t by omega]
                    refine j_aload_n C dX9_span_118 rfl 119 rfl ?_
                    refine gf_X9_13 C rfl rfl dX9_span_119 122 rfl ?_
                    refine j_sipush (v := nI 400) C dX9_span_122 (by decide) 125 rfl ?_
                    refine j_iload_n C dX9_span_125 rfl 126 rfl ?_
                    refine n_imul C dX9_span_126 127 rfl ?_
                    refine j_iload C dX9_span_127 rfl 129 rfl ?_
                    refine n_iadd C dX9_span_129 130 rfl ?_
                    refine j_iald C rfl (by omega) (by decide) dX9_span_130 131 rfl ?_
                    rw [gl_up_ne (show (2 : Nat) ≠ 10 by decide), gl_up_ne (show (2 : Nat) ≠ 9 by decide)]
                    refine j_iast C rfl (by omega) (by decide) dX9_span_131 132 rfl ?_
                    refine j_aload_n C dX9_span_132 rfl 133 rfl ?_
                    refine gf_X9_42 C rfl rfl dX9_span_133 136 rfl ?_
                    refine j_bipush (v := nI 40) C dX9_span_136 (by decide) 138 rfl ?_
                    refine j_iload_n C dX9_span_138 rfl 139 rfl ?_
                    refine n_imul C dX9_span_139 140 rfl ?_
                    refine j_iload C dX9_span_140 rfl 142 rfl ?_
                    refine n_iadd C dX9_span_142 143 rfl ?_
                    refine j_iload C dX9_span_143 rfl 145 rfl ?_
                    refine n_isub C dX9_span_145 (by omega) 146 rfl ?_
                    rw [show 40 * s + (j + t) - j = 40 * s + t by omega]
                    refine j_aload_n C dX9_span_146 rfl 147 rfl ?_
                    refine gf_X9_16 C rfl rfl dX9_span_147 150 rfl ?_
                    refine j_sipush (v := nI 400) C dX9_span_150 (by decide) 153 rfl ?_
                    refine j_iload_n C dX9_span_153 rfl 154 rfl ?_
                    refine n_imul C dX9_span_154 155 rfl ?_
                    refine j_iload C dX9_span_155 rfl 157 rfl ?_
                    refine n_iadd C dX9_span_157 158 rfl ?_
                    refine j_lald C rfl (by omega) (by decide) dX9_span_158 159 rfl ?_
                    rw [gl_up_ne (show (3 : Nat) ≠ 11 by decide)]
                    refine j_last C rfl (by omega) (by decide) dX9_span_159 160 rfl ?_
                    refine n_iinc C dX9_span_160 rfl (by rw [hnL]; decide) rfl 163 rfl ?_
                    refine j_goto (tgt := 97) C dX9_span_163 (by decide) ?_
                    rw [gl_u2_up, gl_u2_up, gl_cpy_sG (a := fun t => I 2 (400 * lg + (j + t))), gl_cpy_sG (a := fun t => L 3 (400 * lg + (j + t)))]
                    exact ih (t + 1) (by omega)
              have scan : ∀ c i : Nat, i + c = k → gl_ng (B 4) (400 * lg) c i = gl_ng (B 4) (400 * lg) (k - j) j → gl_J κ 0 0 (gl_mL, I, L, B, gl_mR) 51 [some (.ref 0), some (.int (nI s)), some (.int (nI lg)), some (.int (nI m)), some (.int (nI j)), some (.int (nI k)), some (.int (nI i))] [] := by
                intro c
                induction c with
                | zero =>
                  intro i hi hng
                  have hiN : i = k := by omega
                  subst hiN
                  have hok : gl_sok I B lm (nI s) (nI lg) (nI m) (nI j) (nI i) = true := by
                    rw [gl_sok, c_5, c_14, hcm, hck, hcj, hcl, gl_in_nI hkk (by omega), gl_in_nI hj (by omega), decide_eq_true (show i < m + 1 by omega), decide_eq_true (show j < i + 1 by omega), decide_eq_true (show i - j ≤ 40 by omega), ← hng]; rfl
                  refine j_iload C dX9_span_51 rfl 53 rfl ?_
                  refine j_iload C dX9_span_53 rfl 55 rfl ?_
                  refine n_icmp_ge C 82 58 dX9_span_55 (by decide) rfl (by omega) (by omega) (fun c_55 => ?_) (fun c_55 => ?_)
                  · refine j_aload_n C dX9_span_82 rfl 83 rfl ?_
                    refine j_iload_n C dX9_span_83 rfl 84 rfl ?_
                    refine j_iconst (v := nI 5) C dX9_span_84 (by decide) 85 rfl ?_
                    refine j_iload_n C dX9_span_85 rfl 86 rfl ?_
                    refine j_iload C dX9_span_86 rfl 88 rfl ?_
                    refine j_iload C dX9_span_88 rfl 90 rfl ?_
                    refine j_cv C (cs_X9_295 C (ct_X9_begin (h - 1) (by omega) hs) rfl rfl (by omega) (by omega) (by omega) rfl (Nat.le_of_ble_eq_true rfl) dX9_span_90) 93 rfl ?_
                    rintro _ rfl
                    refine j_iload C dX9_span_93 rfl 95 rfl ?_
                    refine j_istore C dX9_span_95 (Nat.le_of_ble_eq_true rfl) (by rw [hnL]; decide) rfl 97 rfl ?_
                    have := copy hok (i - j) 0 (by omega)
                    rw [gl_cpy_0, gl_cpy_0, gl_up_self, show va_up (va_up I 9 (gl_bg (I 9) s (nI 5) (nI m) (nI j) (nI i))) 10 (I 10) = va_up I 9 (gl_bg (I 9) s (nI 5) (nI m) (nI j) (nI i)) by rw [← gl_up_ne (f := I) (v := gl_bg (I 9) s (nI 5) (nI m) (nI j) (nI i)) (show (10 : Nat) ≠ 9 by decide), gl_up_self]] at this
                    exact this
                  · exact absurd c_55 (by omega)
                | succ c ih =>
                  intro i hi hng
                  refine j_iload C dX9_span_51 rfl 53 rfl ?_
                  refine j_iload C dX9_span_53 rfl 55 rfl ?_
                  refine n_icmp_ge C 82 58 dX9_span_55 (by decide) rfl (by omega) (by omega) (fun c_55 => ?_) (fun c_55 => ?_)
                  · exact absurd c_55 (by omega)
                  · refine j_aload_n C dX9_span_58 rfl 59 rfl ?_
                    refine gf_X9_20 C rfl rfl dX9_span_59 62 rfl ?_
                    refine j_sipush (v := nI 400) C dX9_span_62 (by decide) 65 rfl ?_
                    refine j_iload_n C dX9_span_65 rfl 66 rfl ?_
                    refine n_imul C dX9_span_66 67 rfl ?_
                    refine j_iload C dX9_span_67 rfl 69 rfl ?_
                    refine n_iadd C dX9_span_69 70 rfl ?_
                    refine j_zald C rfl (by omega) (by decide) dX9_span_70 71 rfl ?_
                    refine b_if_eq C 76 74 dX9_span_71 (by decide) rfl (fun c_71 => ?_) (fun c_71 => ?_)
                    · refine n_iinc C dX9_span_76 rfl (by rw [hnL]; decide) rfl 79 rfl ?_
                      refine j_goto (tgt := 51) C dX9_span_79 (by decide) ?_
                      refine ih (i + 1) (by omega) ?_
                      rw [← hng, gl_ng, c_71]; rfl
                    · refine j_iconst (v := -1) C dX9_span_74 (by decide) 75 rfl ?_
                      exact j_iret C hQ (by rw [gl_span, if_neg (by rw [gl_sok, hcl, hcj, hck, ← hng, gl_ng, c_71]; simp)]; exact ⟨rfl, rfl⟩) (by omega) (by omega) dX9_span_75
              refine j_iload C dX9_span_47 rfl 49 rfl ?_
              refine j_istore C dX9_span_49 (Nat.le_of_ble_eq_true rfl) (by rw [hnL]; decide) rfl 51 rfl ?_
              exact scan (k - j) j (by omega) rfl
            · refine j_iconst (v := -1) C dX9_span_45 (by decide) 46 rfl ?_
              exact j_iret C hQ (by rw [gl_span, if_neg (by rw [gl_sok, hcj, hck, decide_eq_false (show ¬ k - j ≤ 40 by omega)]; simp)]; exact ⟨rfl, rfl⟩) (by omega) (by omega) dX9_span_46
