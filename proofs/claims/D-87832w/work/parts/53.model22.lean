/-! MODULE Model, proofs tried: check (by gen53.py) -/
set_option maxRecDepth 100000
def gl_ckG (I : Nat → Nat → Int32) (fa nn : Nat → Nat) (s a b : Nat) : Bool := gl_lk (gl_top (gl_grP (gl_stp I s) (fa s))) (fun t => I 13 (28 * a + 4 + t)) 8 && gl_lk (gl_top (gl_grQ (gl_stp I s) (fa s) (nn s))) (fun t => I 13 (28 * b + 4 + t)) 8
def gl_ckS (I : Nat → Nat → Int32) (L : Nat → Nat → Int64) (kd nn fa sb : Nat → Nat) (s a : Nat) : Bool := gl_lk (gl_spT (gl_stp I s) (fun j => I 10 (40 * s + j)) (fun j => L 11 (40 * s + j)) (fa s) (gl_eb kd fa sb s) (nn s)) (fun t => I 13 (28 * a + 4 + t)) 8
def gl_ckW (I : Nat → Nat → Int32) (kd sm : Nat → Nat) (s a : Nat) : Bool := gl_wR (gl_stp I s) (sm s) (kd s = 3) (I 9 (8 * s + 7) = nI 1) (I 10 (40 * s)) (I 9 (8 * s + 6)) (I 9 (8 * s + 5)) (fun t => I 13 (28 * a + 12 + t))
def gl_check (I : Nat → Nat → Int32) (L : Nat → Nat → Int64) (B : Nat → Nat → Bool) (kd sm nn fa sb : Nat → Nat) (x y z : Int32) : Int32 := if gl_in x 16 = true ∧ kd x.toNatClampNeg ≠ 0 ∧ gl_in y 12 = true ∧ B 14 y.toNatClampNeg = true then (if kd x.toNatClampNeg = 2 then (if gl_in z 12 = true ∧ B 14 z.toNatClampNeg = true then b2i (decide (I 13 (28 * y.toNatClampNeg) = nI (fa x.toNatClampNeg)) && (decide (I 13 (28 * z.toNatClampNeg) = nI (nn x.toNatClampNeg)) && gl_ckG I fa nn x.toNatClampNeg y.toNatClampNeg z.toNatClampNeg)) else -1) else b2i (decide (I 13 (28 * y.toNatClampNeg) = nI (nn x.toNatClampNeg)) && (if kd x.toNatClampNeg = 1 ∨ kd x.toNatClampNeg = 5 then gl_ckS I L kd nn fa sb x.toNatClampNeg y.toNatClampNeg else gl_ckW I kd sm x.toNatClampNeg y.toNatClampNeg))) else -1
set_option maxHeartbeats 4000000 in
set_option maxRecDepth 100000 in
theorem ct_X9_check {l : Launch} {δ : gl_Del} {I : Nat → Nat → Int32} {L : Nat → Nat → Int64} {B : Nat → Nat → Bool} {kd sm nn fa sb : Nat → Nat} {x y z : Int32} (h : Nat) (hh : 7 ≤ h) (P : gl_SI I kd sm nn fa sb) : gl_Ct l δ yX9_check (ws_ yX9_check cX9_check 6 ((some FieldType.int))) (gl_rm h 0 0) 0 0 [.ref 0, .int x, .int y, .int z] (gl_mL, I, L, B, gl_mR) (gl_Qi fun r S => r = gl_check I L B kd sm nn fa sb x y z ∧ ∃ I', S = (gl_mL, I', L, B, gl_mR) ∧ gl_fq [39, 40, 42, 43, 44, 45, 46, 55, 56] [49, 63] I I') := by
  refine gl_of (by decide) (Nat.le_of_ble_eq_true rfl) rfl ?_
  intro κ C hQ hlκ hδκ hnL hini
  change gl_Cx κ RX9 _ _ _ at C
  refine j_aload_n C dX9_check_0 rfl 1 rfl ?_
  refine j_iload_n C dX9_check_1 rfl 2 rfl ?_
  refine j_ci C (cs_X9_292 C (ct_X9_isSlot (h - 1) (by omega)) rfl rfl (by omega) (by omega) (by omega) rfl (Nat.le_of_ble_eq_true rfl) dX9_check_2) 5 rfl ?_
  rintro _ _ ⟨rfl, rfl⟩
  refine b_if_eq C 37 8 dX9_check_5 (by decide) rfl (fun c_5 => ?_) (fun c_5 => ?_)
  · refine j_iconst (v := -1) C dX9_check_37 (by decide) 38 rfl ?_
    exact j_iret C hQ ⟨by rw [gl_check, if_neg (fun q => by rw [c_5] at q; cases q.1)], _, rfl, gl_fq.rf⟩ (by omega) (by omega) dX9_check_38
  · obtain ⟨s, hs, rfl⟩ := (gl_in_iff (by decide)).mp c_5
    have hcs : (nI s).toNatClampNeg = s := nI_clamp (by omega)
    obtain ⟨k0, kb, k1, k1b, k2, k2b, k3, k4, k4b, k5, k6, k7⟩ := P s hs
    refine j_aload_n C dX9_check_8 rfl 9 rfl ?_
    refine gf_X9_36 C rfl rfl dX9_check_9 12 rfl ?_
    refine j_bipush (v := nI 8) C dX9_check_12 (by decide) 14 rfl ?_
    refine j_iload_n C dX9_check_14 rfl 15 rfl ?_
    refine n_imul C dX9_check_15 16 rfl ?_
    refine j_iald C rfl (by omega) (by decide) dX9_check_16 17 rfl ?_
    rw [k0]
    refine n_if_eq C 37 20 dX9_check_17 (by decide) rfl (by omega) (fun c_17 => ?_) (fun c_17 => ?_)
    · refine j_iconst (v := -1) C dX9_check_37 (by decide) 38 rfl ?_
      exact j_iret C hQ ⟨by rw [gl_check, if_neg (fun q => by rw [hcs] at q; exact q.2.1 c_17)], _, rfl, gl_fq.rf⟩ (by omega) (by omega) dX9_check_38
    · refine j_aload_n C dX9_check_20 rfl 21 rfl ?_
      refine j_iload_n C dX9_check_21 rfl 22 rfl ?_
      refine j_ci C (cs_X9_322 C (ct_X9_isReader (h - 1) (by omega)) rfl rfl (by omega) (by omega) (by omega) rfl (Nat.le_of_ble_eq_true rfl) dX9_check_22) 25 rfl ?_
      rintro _ _ ⟨rfl, rfl⟩
      refine b_if_eq C 37 28 dX9_check_25 (by decide) rfl (fun c_25 => ?_) (fun c_25 => ?_)
      · refine j_iconst (v := -1) C dX9_check_37 (by decide) 38 rfl ?_
        exact j_iret C hQ ⟨by rw [gl_check, if_neg (fun q => by rw [c_25] at q; cases q.2.2.1)], _, rfl, gl_fq.rf⟩ (by omega) (by omega) dX9_check_38
      · obtain ⟨a, ha, rfl⟩ := (gl_in_iff (by decide)).mp c_25
        have hca : (nI a).toNatClampNeg = a := nI_clamp (by omega)
        refine j_aload_n C dX9_check_28 rfl 29 rfl ?_
        refine gf_X9_52 C rfl rfl dX9_check_29 32 rfl ?_
        refine j_iload_n C dX9_check_32 rfl 33 rfl ?_
        refine j_zald C rfl (by omega) (by decide) dX9_check_33 34 rfl ?_
        refine b_if_ne C 39 37 dX9_check_34 (by decide) rfl (fun c_34 => ?_) (fun c_34 => ?_)
        · refine j_aload_n C dX9_check_39 rfl 40 rfl ?_
          refine gf_X9_36 C rfl rfl dX9_check_40 43 rfl ?_
          refine j_bipush (v := nI 8) C dX9_check_43 (by decide) 45 rfl ?_
          refine j_iload_n C dX9_check_45 rfl 46 rfl ?_
          refine n_imul C dX9_check_46 47 rfl ?_
          refine j_iald C rfl (by omega) (by decide) dX9_check_47 48 rfl ?_
          rw [k0]
          refine j_istore C dX9_check_48 (Nat.le_of_ble_eq_true rfl) (by rw [hnL]; decide) rfl 50 rfl ?_
          refine j_iload C dX9_check_50 rfl 52 rfl ?_
          refine j_iconst (v := nI 2) C dX9_check_52 (by decide) 53 rfl ?_
          refine n_icmp_ne C 163 56 dX9_check_53 (by decide) rfl (by omega) (by omega) (fun c_53 => ?_) (fun c_53 => ?_)
          · refine j_aload_n C dX9_check_163 rfl 164 rfl ?_
            refine gf_X9_49 C rfl rfl dX9_check_164 167 rfl ?_
            refine j_bipush (v := nI 28) C dX9_check_167 (by decide) 169 rfl ?_
            refine j_iload_n C dX9_check_169 rfl 170 rfl ?_
            refine n_imul C dX9_check_170 171 rfl ?_
            refine j_iald C rfl (by omega) (by decide) dX9_check_171 172 rfl ?_
            refine j_aload_n C dX9_check_172 rfl 173 rfl ?_
            refine gf_X9_36 C rfl rfl dX9_check_173 176 rfl ?_
            refine j_bipush (v := nI 8) C dX9_check_176 (by decide) 178 rfl ?_
            refine j_iload_n C dX9_check_178 rfl 179 rfl ?_
            refine n_imul C dX9_check_179 180 rfl ?_
            refine j_iconst (v := nI 2) C dX9_check_180 (by decide) 181 rfl ?_
            refine n_iadd C dX9_check_181 182 rfl ?_
            refine j_iald C rfl (by omega) (by decide) dX9_check_182 183 rfl ?_
            rw [k2]
            refine j_icmp_eq C 188 186 dX9_check_183 (by decide) rfl (fun c_183 => ?_) (fun c_183 => ?_)
            · refine j_iload C dX9_check_188 rfl 190 rfl ?_
              refine j_iconst (v := nI 1) C dX9_check_190 (by decide) 191 rfl ?_
              refine n_icmp_eq C 200 194 dX9_check_191 (by decide) rfl (by omega) (by omega) (fun c_191 => ?_) (fun c_191 => ?_)
              · refine j_aload_n C dX9_check_200 rfl 201 rfl ?_
                refine j_iload_n C dX9_check_201 rfl 202 rfl ?_
                refine j_aload_n C dX9_check_202 rfl 203 rfl ?_
                refine gf_X9_49 C rfl rfl dX9_check_203 206 rfl ?_
                refine j_bipush (v := nI 28) C dX9_check_206 (by decide) 208 rfl ?_
                refine j_iload_n C dX9_check_208 rfl 209 rfl ?_
                refine n_imul C dX9_check_209 210 rfl ?_
                refine j_ci C (cs_X9_329 C (ct_X9_isSpanRight (h - 1) (by omega) P hs (by omega) (by omega)) rfl rfl (by omega) (by omega) (by omega) rfl (Nat.le_of_ble_eq_true rfl) dX9_check_210) 213 rfl ?_
                rintro _ _ ⟨rfl, I1, rfl, f1⟩
                refine j_goto (tgt := 229) C dX9_check_213 (by decide) ?_
                refine j_istore C dX9_check_229 (Nat.le_of_ble_eq_true rfl) (by rw [hnL]; decide) rfl 231 rfl ?_
                refine j_iload C dX9_check_231 rfl 233 rfl ?_
                refine b_if_eq C 240 236 dX9_check_233 (by decide) rfl (fun c_233 => ?_) (fun c_233 => ?_)
                · refine j_iconst (v := b2i false) C dX9_check_240 (by decide) 241 rfl ?_
                  exact j_iret C hQ ⟨by rw [gl_check, if_pos ⟨c_5, by rw [hcs]; exact c_17, c_25, by rw [hca]; exact c_34⟩, hcs, hca, if_neg c_53, decide_eq_true c_183, if_pos (Or.inl c_191), show gl_ckS I L kd nn fa sb s a = false from c_233]; rfl, _, rfl, f1⟩ (by omega) (by omega) dX9_check_241
                · refine j_iconst (v := b2i true) C dX9_check_236 (by decide) 237 rfl ?_
                  refine j_goto (tgt := 241) C dX9_check_237 (by decide) ?_
                  exact j_iret C hQ ⟨by rw [gl_check, if_pos ⟨c_5, by rw [hcs]; exact c_17, c_25, by rw [hca]; exact c_34⟩, hcs, hca, if_neg c_53, decide_eq_true c_183, if_pos (Or.inl c_191), show gl_ckS I L kd nn fa sb s a = true from c_233]; rfl, _, rfl, f1⟩ (by omega) (by omega) dX9_check_241
              · refine j_iload C dX9_check_194 rfl 196 rfl ?_
                refine j_iconst (v := nI 5) C dX9_check_196 (by decide) 197 rfl ?_
                refine n_icmp_ne C 216 200 dX9_check_197 (by decide) rfl (by omega) (by omega) (fun c_197 => ?_) (fun c_197 => ?_)
                · refine j_aload_n C dX9_check_216 rfl 217 rfl ?_
                  refine j_iload_n C dX9_check_217 rfl 218 rfl ?_
                  refine j_aload_n C dX9_check_218 rfl 219 rfl ?_
                  refine gf_X9_49 C rfl rfl dX9_check_219 222 rfl ?_
                  refine j_bipush (v := nI 28) C dX9_check_222 (by decide) 224 rfl ?_
                  refine j_iload_n C dX9_check_224 rfl 225 rfl ?_
                  refine n_imul C dX9_check_225 226 rfl ?_
                  refine j_ci C (cs_X9_333 C (ct_X9_isWayRight (h - 1) (by omega) P hs (by omega)) rfl rfl (by omega) (by omega) (by omega) rfl (Nat.le_of_ble_eq_true rfl) dX9_check_226) 229 rfl ?_
                  rintro _ _ ⟨rfl, I1, rfl, f1⟩
                  refine j_istore C dX9_check_229 (Nat.le_of_ble_eq_true rfl) (by rw [hnL]; decide) rfl 231 rfl ?_
                  refine j_iload C dX9_check_231 rfl 233 rfl ?_
                  refine b_if_eq C 240 236 dX9_check_233 (by decide) rfl (fun c_233 => ?_) (fun c_233 => ?_)
                  · refine j_iconst (v := b2i false) C dX9_check_240 (by decide) 241 rfl ?_
                    exact j_iret C hQ ⟨by rw [gl_check, if_pos ⟨c_5, by rw [hcs]; exact c_17, c_25, by rw [hca]; exact c_34⟩, hcs, hca, if_neg c_53, decide_eq_true c_183, if_neg (fun q => q.elim c_191 c_197), show gl_ckW I kd sm s a = false from c_233]; rfl, _, rfl, f1⟩ (by omega) (by omega) dX9_check_241
                  · refine j_iconst (v := b2i true) C dX9_check_236 (by decide) 237 rfl ?_
                    refine j_goto (tgt := 241) C dX9_check_237 (by decide) ?_
                    exact j_iret C hQ ⟨by rw [gl_check, if_pos ⟨c_5, by rw [hcs]; exact c_17, c_25, by rw [hca]; exact c_34⟩, hcs, hca, if_neg c_53, decide_eq_true c_183, if_neg (fun q => q.elim c_191 c_197), show gl_ckW I kd sm s a = true from c_233]; rfl, _, rfl, f1⟩ (by omega) (by omega) dX9_check_241
                · refine j_aload_n C dX9_check_200 rfl 201 rfl ?_
                  refine j_iload_n C dX9_check_201 rfl 202 rfl ?_
                  refine j_aload_n C dX9_check_202 rfl 203 rfl ?_
                  refine gf_X9_49 C rfl rfl dX9_check_203 206 rfl ?_
                  refine j_bipush (v := nI 28) C dX9_check_206 (by decide) 208 rfl ?_
                  refine j_iload_n C dX9_check_208 rfl 209 rfl ?_
                  refine n_imul C dX9_check_209 210 rfl ?_
                  refine j_ci C (cs_X9_329 C (ct_X9_isSpanRight (h - 1) (by omega) P hs (by omega) (by omega)) rfl rfl (by omega) (by omega) (by omega) rfl (Nat.le_of_ble_eq_true rfl) dX9_check_210) 213 rfl ?_
                  rintro _ _ ⟨rfl, I1, rfl, f1⟩
                  refine j_goto (tgt := 229) C dX9_check_213 (by decide) ?_
                  refine j_istore C dX9_check_229 (Nat.le_of_ble_eq_true rfl) (by rw [hnL]; decide) rfl 231 rfl ?_
                  refine j_iload C dX9_check_231 rfl 233 rfl ?_
                  refine b_if_eq C 240 236 dX9_check_233 (by decide) rfl (fun c_233 => ?_) (fun c_233 => ?_)
                  · refine j_iconst (v := b2i false) C dX9_check_240 (by decide) 241 rfl ?_
                    exact j_iret C hQ ⟨by rw [gl_check, if_pos ⟨c_5, by rw [hcs]; exact c_17, c_25, by rw [hca]; exact c_34⟩, hcs, hca, if_neg c_53, decide_eq_true c_183, if_pos (Or.inr c_197), show gl_ckS I L kd nn fa sb s a = false from c_233]; rfl, _, rfl, f1⟩ (by omega) (by omega) dX9_check_241
                  · refine j_iconst (v := b2i true) C dX9_check_236 (by decide) 237 rfl ?_
                    refine j_goto (tgt := 241) C dX9_check_237 (by decide) ?_
                    exact j_iret C hQ ⟨by rw [gl_check, if_pos ⟨c_5, by rw [hcs]; exact c_17, c_25, by rw [hca]; exact c_34⟩, hcs, hca, if_neg c_53, decide_eq_true c_183, if_pos (Or.inr c_197), show gl_ckS I L kd nn fa sb s a = true from c_233]; rfl, _, rfl, f1⟩ (by omega) (by omega) dX9_check_241
            · refine j_iconst (v := b2i false) C dX9_check_186 (by decide) 187 rfl ?_
              exact j_iret C hQ ⟨by rw [gl_check, if_pos ⟨c_5, by rw [hcs]; exact c_17, c_25, by rw [hca]; exact c_34⟩, hcs, hca, if_neg c_53, decide_eq_false c_183]; rfl, _, rfl, gl_fq.rf⟩ (by omega) (by omega) dX9_check_187
          · refine j_aload_n C dX9_check_56 rfl 57 rfl ?_
            refine j_iload_n C dX9_check_57 rfl 58 rfl ?_
            refine j_ci C (cs_X9_322 C (ct_X9_isReader (h - 1) (by omega)) rfl rfl (by omega) (by omega) (by omega) rfl (Nat.le_of_ble_eq_true rfl) dX9_check_58) 61 rfl ?_
            rintro _ _ ⟨rfl, rfl⟩
            refine b_if_eq C 73 64 dX9_check_61 (by decide) rfl (fun c_61 => ?_) (fun c_61 => ?_)
            · refine j_iconst (v := -1) C dX9_check_73 (by decide) 74 rfl ?_
              exact j_iret C hQ ⟨by rw [gl_check, if_pos ⟨c_5, by rw [hcs]; exact c_17, c_25, by rw [hca]; exact c_34⟩, hcs, hca, if_pos c_53, if_neg (fun q => by rw [c_61] at q; cases q.1)], _, rfl, gl_fq.rf⟩ (by omega) (by omega) dX9_check_74
            · obtain ⟨b, hb, rfl⟩ := (gl_in_iff (by decide)).mp c_61
              have hcb : (nI b).toNatClampNeg = b := nI_clamp (by omega)
              refine j_aload_n C dX9_check_64 rfl 65 rfl ?_
              refine gf_X9_52 C rfl rfl dX9_check_65 68 rfl ?_
              refine j_iload_n C dX9_check_68 rfl 69 rfl ?_
              refine j_zald C rfl (by omega) (by decide) dX9_check_69 70 rfl ?_
              refine b_if_ne C 75 73 dX9_check_70 (by decide) rfl (fun c_70 => ?_) (fun c_70 => ?_)
              · refine j_aload_n C dX9_check_75 rfl 76 rfl ?_
                refine gf_X9_49 C rfl rfl dX9_check_76 79 rfl ?_
                refine j_bipush (v := nI 28) C dX9_check_79 (by decide) 81 rfl ?_
                refine j_iload_n C dX9_check_81 rfl 82 rfl ?_
                refine n_imul C dX9_check_82 83 rfl ?_
                refine j_iald C rfl (by omega) (by decide) dX9_check_83 84 rfl ?_
                refine j_aload_n C dX9_check_84 rfl 85 rfl ?_
                refine gf_X9_36 C rfl rfl dX9_check_85 88 rfl ?_
                refine j_bipush (v := nI 8) C dX9_check_88 (by decide) 90 rfl ?_
                refine j_iload_n C dX9_check_90 rfl 91 rfl ?_
                refine n_imul C dX9_check_91 92 rfl ?_
                refine j_iconst (v := nI 3) C dX9_check_92 (by decide) 93 rfl ?_
                refine n_iadd C dX9_check_93 94 rfl ?_
                refine j_iald C rfl (by omega) (by decide) dX9_check_94 95 rfl ?_
                rw [k3]
                refine j_icmp_ne C 125 98 dX9_check_95 (by decide) rfl (fun c_95 => ?_) (fun c_95 => ?_)
                · refine j_iconst (v := b2i false) C dX9_check_125 (by decide) 126 rfl ?_
                  refine j_istore C dX9_check_126 (Nat.le_of_ble_eq_true rfl) (by rw [hnL]; decide) rfl 128 rfl ?_
                  refine j_iload C dX9_check_128 rfl 130 rfl ?_
                  refine b_if_eq C 161 133 dX9_check_130 (by decide) rfl (fun c_130 => ?_) (fun c_130 => ?_)
                  · refine j_iconst (v := b2i false) C dX9_check_161 (by decide) 162 rfl ?_
                    exact j_iret C hQ ⟨by rw [gl_check, if_pos ⟨c_5, by rw [hcs]; exact c_17, c_25, by rw [hca]; exact c_34⟩, hcs, hca, if_pos c_53, if_pos ⟨c_61, by rw [hcb]; exact c_70⟩, hcb, decide_eq_false c_95]; rfl, _, rfl, gl_fq.rf⟩ (by omega) (by omega) dX9_check_162
                  · exact absurd c_130 (by decide)
                · refine j_aload_n C dX9_check_98 rfl 99 rfl ?_
                  refine gf_X9_49 C rfl rfl dX9_check_99 102 rfl ?_
                  refine j_bipush (v := nI 28) C dX9_check_102 (by decide) 104 rfl ?_
                  refine j_iload_n C dX9_check_104 rfl 105 rfl ?_
                  refine n_imul C dX9_check_105 106 rfl ?_
                  refine j_iald C rfl (by omega) (by decide) dX9_check_106 107 rfl ?_
                  refine j_aload_n C dX9_check_107 rfl 108 rfl ?_
                  refine gf_X9_36 C rfl rfl dX9_check_108 111 rfl ?_
                  refine j_bipush (v := nI 8) C dX9_check_111 (by decide) 113 rfl ?_
                  refine j_iload_n C dX9_check_113 rfl 114 rfl ?_
                  refine n_imul C dX9_check_114 115 rfl ?_
                  refine j_iconst (v := nI 2) C dX9_check_115 (by decide) 116 rfl ?_
                  refine n_iadd C dX9_check_116 117 rfl ?_
                  refine j_iald C rfl (by omega) (by decide) dX9_check_117 118 rfl ?_
                  rw [k2]
                  refine j_icmp_ne C 125 121 dX9_check_118 (by decide) rfl (fun c_118 => ?_) (fun c_118 => ?_)
                  · refine j_iconst (v := b2i false) C dX9_check_125 (by decide) 126 rfl ?_
                    refine j_istore C dX9_check_126 (Nat.le_of_ble_eq_true rfl) (by rw [hnL]; decide) rfl 128 rfl ?_
                    refine j_iload C dX9_check_128 rfl 130 rfl ?_
                    refine b_if_eq C 161 133 dX9_check_130 (by decide) rfl (fun c_130 => ?_) (fun c_130 => ?_)
                    · refine j_iconst (v := b2i false) C dX9_check_161 (by decide) 162 rfl ?_
                      exact j_iret C hQ ⟨by rw [gl_check, if_pos ⟨c_5, by rw [hcs]; exact c_17, c_25, by rw [hca]; exact c_34⟩, hcs, hca, if_pos c_53, if_pos ⟨c_61, by rw [hcb]; exact c_70⟩, hcb, decide_eq_false c_118, Bool.false_and, Bool.and_false], _, rfl, gl_fq.rf⟩ (by omega) (by omega) dX9_check_162
                    · exact absurd c_130 (by decide)
                  · refine j_iconst (v := b2i true) C dX9_check_121 (by decide) 122 rfl ?_
                    refine j_goto (tgt := 126) C dX9_check_122 (by decide) ?_
                    refine j_istore C dX9_check_126 (Nat.le_of_ble_eq_true rfl) (by rw [hnL]; decide) rfl 128 rfl ?_
                    refine j_iload C dX9_check_128 rfl 130 rfl ?_
                    refine b_if_eq C 161 133 dX9_check_130 (by decide) rfl (fun c_130 => ?_) (fun c_130 => ?_)
                    · exact absurd c_130 (by decide)
                    · refine j_aload_n C dX9_check_133 rfl 134 rfl ?_
                      refine j_iload_n C dX9_check_134 rfl 135 rfl ?_
                      refine j_aload_n C dX9_check_135 rfl 136 rfl ?_
                      refine gf_X9_49 C rfl rfl dX9_check_136 139 rfl ?_
                      refine j_bipush (v := nI 28) C dX9_check_139 (by decide) 141 rfl ?_
                      refine j_iload_n C dX9_check_141 rfl 142 rfl ?_
                      refine n_imul C dX9_check_142 143 rfl ?_
                      refine j_aload_n C dX9_check_143 rfl 144 rfl ?_
                      refine gf_X9_49 C rfl rfl dX9_check_144 147 rfl ?_
                      refine j_bipush (v := nI 28) C dX9_check_147 (by decide) 149 rfl ?_
                      refine j_iload_n C dX9_check_149 rfl 150 rfl ?_
                      refine n_imul C dX9_check_150 151 rfl ?_
                      refine j_ci C (cs_X9_325 C (ct_X9_isGrownRight (h - 1) (by omega) P hs (by omega) (by omega)) rfl rfl (by omega) (by omega) (by omega) rfl (Nat.le_of_ble_eq_true rfl) dX9_check_151) 154 rfl ?_
                      rintro _ _ ⟨rfl, I1, rfl, f1⟩
                      refine b_if_eq C 161 157 dX9_check_154 (by decide) rfl (fun c_154 => ?_) (fun c_154 => ?_)
                      · refine j_iconst (v := b2i false) C dX9_check_161 (by decide) 162 rfl ?_
                        exact j_iret C hQ ⟨by rw [gl_check, if_pos ⟨c_5, by rw [hcs]; exact c_17, c_25, by rw [hca]; exact c_34⟩, hcs, hca, if_pos c_53, if_pos ⟨c_61, by rw [hcb]; exact c_70⟩, hcb, decide_eq_true c_95, decide_eq_true c_118, show gl_ckG I fa nn s a b = false from c_154]; rfl, _, rfl, f1⟩ (by omega) (by omega) dX9_check_162
                      · refine j_iconst (v := b2i true) C dX9_check_157 (by decide) 158 rfl ?_
                        refine j_goto (tgt := 162) C dX9_check_158 (by decide) ?_
                        exact j_iret C hQ ⟨by rw [gl_check, if_pos ⟨c_5, by rw [hcs]; exact c_17, c_25, by rw [hca]; exact c_34⟩, hcs, hca, if_pos c_53, if_pos ⟨c_61, by rw [hcb]; exact c_70⟩, hcb, decide_eq_true c_95, decide_eq_true c_118, show gl_ckG I fa nn s a b = true from c_154]; rfl, _, rfl, f1⟩ (by omega) (by omega) dX9_check_162
              · refine j_iconst (v := -1) C dX9_check_73 (by decide) 74 rfl ?_
                exact j_iret C hQ ⟨by rw [gl_check, if_pos ⟨c_5, by rw [hcs]; exact c_17, c_25, by rw [hca]; exact c_34⟩, hcs, hca, if_pos c_53, if_neg (fun q => by rw [hcb, c_70] at q; cases q.2)], _, rfl, gl_fq.rf⟩ (by omega) (by omega) dX9_check_74
        · refine j_iconst (v := -1) C dX9_check_37 (by decide) 38 rfl ?_
          exact j_iret C hQ ⟨by rw [gl_check, if_neg (fun q => by rw [hca, c_34] at q; cases q.2.2.2)], _, rfl, gl_fq.rf⟩ (by omega) (by omega) dX9_check_38
