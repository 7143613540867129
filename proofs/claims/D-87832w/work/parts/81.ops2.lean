/-! MODULE GlassLog, asked: count, headOf, head, agree, marks (by gen81.py) -/
set_option maxRecDepth 100000
/-- a map in order that holds what a log tells at n -/
def gl_mq (K f : Nat → Int32) (sn : Nat → Nat) (lg : Nat → Bool) (wn n : Nat) (m : gl_Mp) : Prop := gl_srt m ∧ m.length ≤ n ∧ ∀ q, q ∈ m ↔ (q.2 < 400 ∧ gl_lat K f sn lg wn n q.1 = nI q.2 ∧ ∃ j, 0 ≤ j ∧ j < n ∧ K j = q.1)
theorem gl_sel {α : Type} {w : Int32} {k : Nat} {a b : α} (h : w = nI k) : (if w = nI k then a else b) = a := if_pos h
set_option maxHeartbeats 4000000 in
set_option maxRecDepth 100000 in
theorem ct_X0_count {l : Launch} {δ : gl_Del} {Λ : gl_Lay} {I : Nat → Nat → Int32} {L : Nat → Nat → Int64} {B : Nat → Nat → Bool} {R : Nat → Nat → Option Nat} {lm : Nat} {mn wn : Nat → Nat} {sn : Nat → Nat → Nat} {x w : Int32} (h : Nat) (hh : 6 ≤ h) (hG : gl_GL Λ R) (H : gl_gL I 1 lm mn wn sn) : gl_Ct l δ yX0_count (ws_ yX0_count cX0_count 6 ((some FieldType.int))) (gl_rm h 0 0) 0 0 [.ref 0, .int x, .int w] (Λ, I, L, B, R) (gl_Qi fun r S => (if gl_in x lm = true then (if w = nI 0 then r = nI (mn x.toNatClampNeg) else if w = nI 1 then r = nI (gl_gc (B ((1 + 7 + 19 * x.toNatClampNeg) + 5)) 0 (mn x.toNatClampNeg)) else if w = nI 2 then r = I (1 + 7 + 19 * x.toNatClampNeg) 8 else if w = nI 3 then ∃ mp, gl_mq (I ((1 + 7 + 19 * x.toNatClampNeg) + 1)) (I ((1 + 7 + 19 * x.toNatClampNeg) + 2)) (sn x.toNatClampNeg) (B ((1 + 7 + 19 * x.toNatClampNeg) + 7)) (wn x.toNatClampNeg) (mn x.toNatClampNeg) mp ∧ r = nI mp.length else if w = nI 4 then r = nI (gl_ct (fun k => !B ((1 + 7 + 19 * x.toNatClampNeg) + 7) k) (wn x.toNatClampNeg)) else if w = nI 5 then r = nI (gl_ct (fun k => B ((1 + 7 + 19 * x.toNatClampNeg) + 7) k) (wn x.toNatClampNeg)) else r = -1) else r = -1) ∧ ∃ I', S = (Λ, I', L, B, R) ∧ gl_fr 690 701 I I') := by
  refine gl_of (by decide) (Nat.le_of_ble_eq_true rfl) rfl ?_
  intro κ C hQ hlκ hδκ hnL hini
  change gl_Cx κ RX0 _ _ _ at C
  refine j_aload_n C dX0_count_0 rfl 1 rfl ?_
  refine j_iload_n C dX0_count_1 rfl 2 rfl ?_
  refine j_ci C (cs_X0_61 C (ct_X0_isLog (h - 1) (by omega) hG H) hG.o rfl (by omega) (by omega) (by omega) rfl (Nat.le_of_ble_eq_true rfl) dX0_count_2) 5 rfl ?_
  rintro _ _ ⟨rfl, rfl⟩
  refine b_if_ne C 10 8 dX0_count_5 (by decide) rfl (fun c_5 => ?_) (fun c_5 => ?_)
  · obtain ⟨lg, hlg, rfl⟩ := (gl_in_iff (by have := H.2.1; omega)).mp c_5
    have hl6 := H.2.1
    have hL := hG.hs.lg lg (by omega)
    obtain ⟨hn9, hn4, hw10, hw1, hsn⟩ := H.2.2 lg hlg
    have hcl : (nI lg).toNatClampNeg = lg := nI_clamp (by omega)
    have loop1 : w = nI 1 → ∀ k j : Nat, j + k = mn lg → gl_J κ 0 0 (Λ, I, L, B, R) 72 [some (.ref 0), some (.int (nI lg)), some (.int (nI 1)), some (.ref (1 + 7 + 19 * lg)), some (.int (nI (gl_gc (B ((1 + 7 + 19 * lg) + 5)) 0 j))), some (.int (nI j))] [] := by
      intro hw_
      subst hw_
      intro k
      induction k with
      | zero =>
        intro j hj
        have hjN : j = mn lg := by omega
        refine j_iload C dX0_count_72 rfl 74 rfl ?_
        refine j_aload_n C dX0_count_74 rfl 75 rfl ?_
        refine gf_X0_69 C hL.o dX0_count_75 78 rfl ?_
        rw [hn9]
        refine n_icmp_ge C 107 81 dX0_count_78 (by decide) rfl (by omega) (by omega) (fun c_78 => ?_) (fun c_78 => ?_)
        · refine j_iload C dX0_count_107 rfl 109 rfl ?_
          exact j_iret C hQ ⟨by rw [if_pos c_5, hcl, if_neg (by decide), if_pos rfl]; exact by rw [hjN], _, rfl, gl_fr.rf⟩ (by omega) (by omega) dX0_count_109
        · exact absurd c_78 (by omega)
      | succ k ih =>
        intro j hj
        refine j_iload C dX0_count_72 rfl 74 rfl ?_
        refine j_aload_n C dX0_count_74 rfl 75 rfl ?_
        refine gf_X0_69 C hL.o dX0_count_75 78 rfl ?_
        rw [hn9]
        refine n_icmp_ge C 107 81 dX0_count_78 (by decide) rfl (by omega) (by omega) (fun c_78 => ?_) (fun c_78 => ?_)
        · exact absurd c_78 (by omega)
        · refine j_iload C dX0_count_81 rfl 83 rfl ?_
          refine j_aload_n C dX0_count_83 rfl 84 rfl ?_
          refine gf_X0_96 C hL.o hL.r4 dX0_count_84 87 rfl ?_
          refine j_iload C dX0_count_87 rfl 89 rfl ?_
          refine j_zald C hL.k5 (by omega) (by decide) dX0_count_89 90 rfl ?_
          refine b_if_eq C 97 93 dX0_count_90 (by decide) rfl (fun c_90 => ?_) (fun c_90 => ?_)
          · refine j_iconst (v := nI 0) C dX0_count_97 (by decide) 98 rfl ?_
            refine n_iadd C dX0_count_98 99 rfl ?_
            refine j_istore C dX0_count_99 (Nat.le_of_ble_eq_true rfl) (by rw [hnL]; decide) rfl 101 rfl ?_
            refine n_iinc C dX0_count_101 rfl (by rw [hnL]; decide) rfl 104 rfl ?_
            refine j_goto (tgt := 72) C dX0_count_104 (by decide) ?_
            have e : gl_gc (B ((1 + 7 + 19 * lg) + 5)) 0 (j + 1) = gl_gc (B ((1 + 7 + 19 * lg) + 5)) 0 j + 0 := by rw [gl_gc, Nat.zero_add, c_90]; simp
            have := ih (j + 1) (by omega)
            rw [e] at this
            exact this
          · refine j_iconst (v := nI 1) C dX0_count_93 (by decide) 94 rfl ?_
            refine j_goto (tgt := 98) C dX0_count_94 (by decide) ?_
            refine n_iadd C dX0_count_98 99 rfl ?_
            refine j_istore C dX0_count_99 (Nat.le_of_ble_eq_true rfl) (by rw [hnL]; decide) rfl 101 rfl ?_
            refine n_iinc C dX0_count_101 rfl (by rw [hnL]; decide) rfl 104 rfl ?_
            refine j_goto (tgt := 72) C dX0_count_104 (by decide) ?_
            have e : gl_gc (B ((1 + 7 + 19 * lg) + 5)) 0 (j + 1) = gl_gc (B ((1 + 7 + 19 * lg) + 5)) 0 j + 1 := by rw [gl_gc, Nat.zero_add, c_90]; simp
            have := ih (j + 1) (by omega)
            rw [e] at this
            exact this
    have loop4 : w = nI 4 → ∀ k j : Nat, j + k = wn lg → gl_J κ 0 0 (Λ, I, L, B, R) 138 [some (.ref 0), some (.int (nI lg)), some (.int (nI 4)), some (.ref (1 + 7 + 19 * lg)), some (.int (nI (gl_ct (fun k => !B ((1 + 7 + 19 * lg) + 7) k) j))), some (.int (nI j))] [] := by
      intro hw_
      subst hw_
      intro k
      induction k with
      | zero =>
        intro j hj
        have hjN : j = wn lg := by omega
        refine j_iload C dX0_count_138 rfl 140 rfl ?_
        refine j_aload_n C dX0_count_140 rfl 141 rfl ?_
        refine gf_X0_111 C hL.o dX0_count_141 144 rfl ?_
        rw [hw10]
        refine n_icmp_ge C 183 147 dX0_count_144 (by decide) rfl (by omega) (by omega) (fun c_144 => ?_) (fun c_144 => ?_)
        · refine j_iload C dX0_count_183 rfl 185 rfl ?_
          exact j_iret C hQ ⟨by rw [if_pos c_5, hcl, if_neg (by decide), if_neg (by decide), if_neg (by decide), if_neg (by decide), if_pos rfl]; exact by rw [hjN], _, rfl, gl_fr.rf⟩ (by omega) (by omega) dX0_count_185
        · exact absurd c_144 (by omega)
      | succ k ih =>
        intro j hj
        refine j_iload C dX0_count_138 rfl 140 rfl ?_
        refine j_aload_n C dX0_count_140 rfl 141 rfl ?_
        refine gf_X0_111 C hL.o dX0_count_141 144 rfl ?_
        rw [hw10]
        refine n_icmp_ge C 183 147 dX0_count_144 (by decide) rfl (by omega) (by omega) (fun c_144 => ?_) (fun c_144 => ?_)
        · exact absurd c_144 (by omega)
        · refine j_iload C dX0_count_147 rfl 149 rfl ?_
          refine j_aload_n C dX0_count_149 rfl 150 rfl ?_
          refine gf_X0_114 C hL.o hL.r6 dX0_count_150 153 rfl ?_
          refine j_iload C dX0_count_153 rfl 155 rfl ?_
          refine j_zald C hL.k7 (by omega) (by decide) dX0_count_155 156 rfl ?_
          refine j_iload_n C dX0_count_156 rfl 157 rfl ?_
          refine j_iconst (v := nI 5) C dX0_count_157 (by decide) 158 rfl ?_
          refine n_icmp_ne C 165 161 dX0_count_158 (by decide) rfl (by decide) (by decide) (fun c_158 => ?_) (fun c_158 => ?_)
          · refine j_iconst (v := nI 0) C dX0_count_165 (by decide) 166 rfl ?_
            refine j_icmp_ne C 173 169 dX0_count_166 (by decide) rfl (fun c_166 => ?_) (fun c_166 => ?_)
            · refine j_iconst (v := nI 0) C dX0_count_173 (by decide) 174 rfl ?_
              refine n_iadd C dX0_count_174 175 rfl ?_
              refine j_istore C dX0_count_175 (Nat.le_of_ble_eq_true rfl) (by rw [hnL]; decide) rfl 177 rfl ?_
              refine n_iinc C dX0_count_177 rfl (by rw [hnL]; decide) rfl 180 rfl ?_
              refine j_goto (tgt := 138) C dX0_count_180 (by decide) ?_
              have e0 : (fun k => !B ((1 + 7 + 19 * lg) + 7) k) j = false := by
                show (!B ((1 + 7 + 19 * lg) + 7) j) = false
                revert c_166
                cases B ((1 + 7 + 19 * lg) + 7) j <;> decide
              have := ih (j + 1) (by omega)
              rw [gl_ct_f e0] at this
              exact this
            · refine j_iconst (v := nI 1) C dX0_count_169 (by decide) 170 rfl ?_
              refine j_goto (tgt := 174) C dX0_count_170 (by decide) ?_
              refine n_iadd C dX0_count_174 175 rfl ?_
              refine j_istore C dX0_count_175 (Nat.le_of_ble_eq_true rfl) (by rw [hnL]; decide) rfl 177 rfl ?_
              refine n_iinc C dX0_count_177 rfl (by rw [hnL]; decide) rfl 180 rfl ?_
              refine j_goto (tgt := 138) C dX0_count_180 (by decide) ?_
              have e0 : (fun k => !B ((1 + 7 + 19 * lg) + 7) k) j = true := by
                show (!B ((1 + 7 + 19 * lg) + 7) j) = true
                revert c_166
                cases B ((1 + 7 + 19 * lg) + 7) j <;> decide
              have := ih (j + 1) (by omega)
              rw [gl_ct_t e0] at this
              exact this
          · exact absurd c_158 (by decide)
    have loop5 : w = nI 5 → ∀ k j : Nat, j + k = wn lg → gl_J κ 0 0 (Λ, I, L, B, R) 138 [some (.ref 0), some (.int (nI lg)), some (.int (nI 5)), some (.ref (1 + 7 + 19 * lg)), some (.int (nI (gl_ct (fun k => B ((1 + 7 + 19 * lg) + 7) k) j))), some (.int (nI j))] [] := by
      intro hw_
      subst hw_
      intro k
      induction k with
      | zero =>
        intro j hj
        have hjN : j = wn lg := by omega
        refine j_iload C dX0_count_138 rfl 140 rfl ?_
        refine j_aload_n C dX0_count_140 rfl 141 rfl ?_
        refine gf_X0_111 C hL.o dX0_count_141 144 rfl ?_
        rw [hw10]
        refine n_icmp_ge C 183 147 dX0_count_144 (by decide) rfl (by omega) (by omega) (fun c_144 => ?_) (fun c_144 => ?_)
        · refine j_iload C dX0_count_183 rfl 185 rfl ?_
          exact j_iret C hQ ⟨by rw [if_pos c_5, hcl, if_neg (by decide), if_neg (by decide), if_neg (by decide), if_neg (by decide), if_neg (by decide), if_pos rfl]; exact by rw [hjN], _, rfl, gl_fr.rf⟩ (by omega) (by omega) dX0_count_185
        · exact absurd c_144 (by omega)
      | succ k ih =>
        intro j hj
        refine j_iload C dX0_count_138 rfl 140 rfl ?_
        refine j_aload_n C dX0_count_140 rfl 141 rfl ?_
        refine gf_X0_111 C hL.o dX0_count_141 144 rfl ?_
        rw [hw10]
        refine n_icmp_ge C 183 147 dX0_count_144 (by decide) rfl (by omega) (by omega) (fun c_144 => ?_) (fun c_144 => ?_)
        · exact absurd c_144 (by omega)
        · refine j_iload C dX0_count_147 rfl 149 rfl ?_
          refine j_aload_n C dX0_count_149 rfl 150 rfl ?_
          refine gf_X0_114 C hL.o hL.r6 dX0_count_150 153 rfl ?_
          refine j_iload C dX0_count_153 rfl 155 rfl ?_
          refine j_zald C hL.k7 (by omega) (by decide) dX0_count_155 156 rfl ?_
          refine j_iload_n C dX0_count_156 rfl 157 rfl ?_
          refine j_iconst (v := nI 5) C dX0_count_157 (by decide) 158 rfl ?_
          refine n_icmp_ne C 165 161 dX0_count_158 (by decide) rfl (by decide) (by decide) (fun c_158 => ?_) (fun c_158 => ?_)
          · exact absurd c_158 (by decide)
          · refine j_iconst (v := nI 1) C dX0_count_161 (by decide) 162 rfl ?_
            refine j_goto (tgt := 166) C dX0_count_162 (by decide) ?_
            refine j_icmp_ne C 173 169 dX0_count_166 (by decide) rfl (fun c_166 => ?_) (fun c_166 => ?_)
            · refine j_iconst (v := nI 0) C dX0_count_173 (by decide) 174 rfl ?_
              refine n_iadd C dX0_count_174 175 rfl ?_
              refine j_istore C dX0_count_175 (Nat.le_of_ble_eq_true rfl) (by rw [hnL]; decide) rfl 177 rfl ?_
              refine n_iinc C dX0_count_177 rfl (by rw [hnL]; decide) rfl 180 rfl ?_
              refine j_goto (tgt := 138) C dX0_count_180 (by decide) ?_
              have e0 : (fun k => B ((1 + 7 + 19 * lg) + 7) k) j = false := by
                show B ((1 + 7 + 19 * lg) + 7) j = false
                revert c_166
                cases B ((1 + 7 + 19 * lg) + 7) j <;> decide
              have := ih (j + 1) (by omega)
              rw [gl_ct_f e0] at this
              exact this
            · refine j_iconst (v := nI 1) C dX0_count_169 (by decide) 170 rfl ?_
              refine j_goto (tgt := 174) C dX0_count_170 (by decide) ?_
              refine n_iadd C dX0_count_174 175 rfl ?_
              refine j_istore C dX0_count_175 (Nat.le_of_ble_eq_true rfl) (by rw [hnL]; decide) rfl 177 rfl ?_
              refine n_iinc C dX0_count_177 rfl (by rw [hnL]; decide) rfl 180 rfl ?_
              refine j_goto (tgt := 138) C dX0_count_180 (by decide) ?_
              have e0 : (fun k => B ((1 + 7 + 19 * lg) + 7) k) j = true := by
                show B ((1 + 7 + 19 * lg) + 7) j = true
                revert c_166
                cases B ((1 + 7 + 19 * lg) + 7) j <;> decide
              have := ih (j + 1) (by omega)
              rw [gl_ct_t e0] at this
              exact this
    refine j_aload_n C dX0_count_10 rfl 11 rfl ?_
    refine gf_X0_12 C hG.o hG.r0 dX0_count_11 14 rfl ?_
    refine gf_X0_65 C hG.hs.o hG.hs.r0 dX0_count_14 17 rfl ?_
    refine j_iload_n C dX0_count_17 rfl 18 rfl ?_
    refine j_aald C (by decide) hG.hs.k1 (by omega) (by decide) dX0_count_18 19 rfl ?_
    rw [hG.hs.lr lg (by omega)]
    change gl_J _ _ _ _ _ _ (Value.ref _ :: _)
    refine j_astore_n C dX0_count_19 (Nat.le_of_ble_eq_true rfl) (by rw [hnL]; decide) rfl 20 rfl ?_
    refine j_iconst (v := nI 0) C dX0_count_20 (by decide) 21 rfl ?_
    refine j_istore C dX0_count_21 (Nat.le_of_ble_eq_true rfl) (by rw [hnL]; decide) rfl 23 rfl ?_
    refine j_iload_n C dX0_count_23 rfl 24 rfl ?_
    rcases gl_sw w 6 (by decide) with ⟨k_, hk_, rfl⟩ | ho_
    · rcases (show k_ = 0 ∨ k_ = 1 ∨ k_ = 2 ∨ k_ = 3 ∨ k_ = 4 ∨ k_ = 5 by omega) with rfl | rfl | rfl | rfl | rfl | rfl
      · refine j_tableIn C 64 dX0_count_24 (by decide) (by decide) rfl (by decide) ?_
        refine j_aload_n C dX0_count_64 rfl 65 rfl ?_
        refine gf_X0_69 C hL.o dX0_count_65 68 rfl ?_
        rw [hn9]
        exact j_iret C hQ ⟨by rw [if_pos c_5, hcl, if_pos rfl], _, rfl, gl_fr.rf⟩ (by omega) (by omega) dX0_count_68
      · refine j_tableIn C 69 dX0_count_24 (by decide) (by decide) rfl (by decide) ?_
        refine j_iconst (v := nI 0) C dX0_count_69 (by decide) 70 rfl ?_
        refine j_istore C dX0_count_70 (Nat.le_of_ble_eq_true rfl) (by rw [hnL]; decide) rfl 72 rfl ?_
        exact loop1 rfl (mn lg) 0 (by omega)
      · refine j_tableIn C 110 dX0_count_24 (by decide) (by decide) rfl (by decide) ?_
        refine j_aload_n C dX0_count_110 rfl 111 rfl ?_
        refine gf_X0_103 C hL.o dX0_count_111 114 rfl ?_
        exact j_iret C hQ ⟨by rw [if_pos c_5, hcl, if_neg (by decide), if_neg (by decide), if_pos rfl], _, rfl, gl_fr.rf⟩ (by omega) (by omega) dX0_count_114
      · refine j_tableIn C 115 dX0_count_24 (by decide) (by decide) rfl (by decide) ?_
        refine j_aload_n C dX0_count_115 rfl 116 rfl ?_
        refine gf_X0_35 C hG.o hG.r3 dX0_count_116 119 rfl ?_
        refine j_aload_n C dX0_count_119 rfl 120 rfl ?_
        refine j_aload_n C dX0_count_120 rfl 121 rfl ?_
        refine gf_X0_69 C hL.o dX0_count_121 124 rfl ?_
        rw [hn9]
        refine j_cv C (cs_X0_106 C (ct_X8_of (lo := (1 + 7 + 19 * lg)) (n := mn lg) (wn := wn lg) (sn := sn lg) (h - 1) (by omega) hG hL (by omega) hn4 hw10 hw1 (fun w hw => (hsn w hw).1) (fun w hw => (hsn w hw).2)) hG.m0 rfl (by omega) (by omega) (by omega) rfl (Nat.le_of_ble_eq_true rfl) dX0_count_124) 127 rfl ?_
        rintro _ ⟨I1, mp, rfl, hf1, hm1, hs1, hl1, hq1⟩
        refine j_aload_n C dX0_count_127 rfl 128 rfl ?_
        refine gf_X0_35 C hG.o hG.r3 dX0_count_128 131 rfl ?_
        refine gf_X0_110 C hG.m0 dX0_count_131 134 rfl ?_
        rw [hm1.1]
        exact j_iret C hQ ⟨by rw [if_pos c_5, hcl, if_neg (by decide), if_neg (by decide), if_neg (by decide), if_pos rfl]; exact ⟨mp, ⟨hs1, hl1, hq1⟩, rfl⟩, _, rfl, hf1⟩ (by omega) (by omega) dX0_count_134
      · refine j_tableIn C 135 dX0_count_24 (by decide) (by decide) rfl (by decide) ?_
        refine j_iconst (v := nI 0) C dX0_count_135 (by decide) 136 rfl ?_
        refine j_istore C dX0_count_136 (Nat.le_of_ble_eq_true rfl) (by rw [hnL]; decide) rfl 138 rfl ?_
        exact loop4 rfl (wn lg) 0 (by omega)
      · refine j_tableIn C 135 dX0_count_24 (by decide) (by decide) rfl (by decide) ?_
        refine j_iconst (v := nI 0) C dX0_count_135 (by decide) 136 rfl ?_
        refine j_istore C dX0_count_136 (Nat.le_of_ble_eq_true rfl) (by rw [hnL]; decide) rfl 138 rfl ?_
        exact loop5 rfl (wn lg) 0 (by omega)
    · refine j_tableOut C 186 dX0_count_24 (by omega) (by decide) ?_
      refine j_iconst (v := -1) C dX0_count_186 (by decide) 187 rfl ?_
      exact j_iret C hQ ⟨by rw [if_pos c_5, hcl, if_neg (gl_out (by decide) (by decide) ho_), if_neg (gl_out (by decide) (by decide) ho_), if_neg (gl_out (by decide) (by decide) ho_), if_neg (gl_out (by decide) (by decide) ho_), if_neg (gl_out (by decide) (by decide) ho_), if_neg (gl_out (by decide) (by decide) ho_)], _, rfl, gl_fr.rf⟩ (by omega) (by omega) dX0_count_187
  · refine j_iconst (v := -1) C dX0_count_8 (by decide) 9 rfl ?_
    exact j_iret C hQ ⟨by rw [if_neg (by rw [c_5]; decide)], _, rfl, gl_fr.rf⟩ (by omega) (by omega) dX0_count_9
/-- a head as a row: count, log, keeper, top, tree, mark -/
def gl_ask (n lg kp : Int32) (t u : Nat → Int32) : Nat → Int32 := fun k => if k = 0 then n else if k = 1 then lg else if k = 2 then kp else if k < 4 then 0 else if k < 12 then t (k - 4) else if k < 20 then u (k - 12) else gl_mark kp n t u (k - 20)
/-- a head at label d is what a row tells from q on -/
def gl_hr (I : Nat → Nat → Int32) (d : Nat) (f : Nat → Int32) (q : Nat) : Prop := I d 3 = f q ∧ I d 4 = f (q + 1) ∧ I d 5 = f (q + 2) ∧ ∀ j, j < 8 → I (d + 1) j = f (q + 4 + j) ∧ I (d + 2) j = f (q + 12 + j) ∧ I (d + 3) j = f (q + 20 + j)
theorem gl_hr.of_eq {I I' : Nat → Nat → Int32} {d q : Nat} {f : Nat → Int32} (h : gl_hr I d f q) (h0 : ∀ c, d ≤ c → c < d + 4 → I' c = I c) : gl_hr I' d f q := by
  unfold gl_hr
  rw [h0 d (by omega) (by omega), h0 (d + 1) (by omega) (by omega), h0 (d + 2) (by omega) (by omega), h0 (d + 3) (by omega) (by omega)]
  exact h
theorem gl_hr.bec {I I' : Nat → Nat → Int32} {B B' : Nat → Nat → Bool} {d e q : Nat} {f : Nat → Int32} (h : gl_hr I e f q) (hb : gl_hbP I I' B B' d e) : gl_hr I' d f q := by
  obtain ⟨h1, h2, h3, h4⟩ := h
  obtain ⟨b1, b2, b3, b4⟩ := hb
  refine ⟨by rw [b2]; simpa [va_up] using h1, by rw [b2]; simpa [va_up] using h2, by rw [b2, gl_up_eq]; exact h3, fun j hj => ?_⟩
  have c0 := b3 0 (by decide)
  have c1 := b3 1 (by decide)
  have c2 := b3 2 (by decide)
  refine ⟨?_, ?_, ?_⟩
  · show I' (d + 1 + 0) j = _
    rw [c0, pk_cpy_in (by omega) (by omega), show 0 + (j - 0) = j by omega]; exact (h4 j hj).1
  · show I' (d + 1 + 1) j = _
    rw [c1, pk_cpy_in (by omega) (by omega), show 0 + (j - 0) = j by omega]; exact (h4 j hj).2.1
  · show I' (d + 1 + 2) j = _
    rw [c2, pk_cpy_in (by omega) (by omega), show 0 + (j - 0) = j by omega]; exact (h4 j hj).2.2
set_option maxHeartbeats 4000000 in
set_option maxRecDepth 100000 in
theorem ct_X0_headOf {l : Launch} {δ : gl_Del} {Λ : gl_Lay} {I : Nat → Nat → Int32} {L : Nat → Nat → Int64} {B : Nat → Nat → Bool} {R : Nat → Nat → Option Nat} {lm : Nat} {mn wn : Nat → Nat} {sn : Nat → Nat → Nat} {lg m : Nat} (h : Nat) (hh : 264 ≤ h) (hG : gl_GL Λ R) (H : gl_gL I 1 lm mn wn sn) (hlg : lg < lm) (hmm : m ≤ mn lg) (hsm : gl_sm I (1 + 7 + 19 * lg) (fun i => I ((1 + 7 + 19 * lg) + 1) i) (fun i => L ((1 + 7 + 19 * lg) + 4) i) (mn lg)) : gl_Ct l δ yX0_headOf (ws_ yX0_headOf cX0_headOf 4 ((some (FieldType.object "GlassLog$Head")))) (gl_rm h 0 0) 0 0 [.ref 0, .int (nI lg), .int (nI m)] (Λ, I, L, B, R) (gl_Qr fun o S => o = some 701 ∧ ∃ mp I', S = (Λ, I', L, gl_u2 B 701 6 true, R) ∧ (∀ c, c < 690 ∨ 705 ≤ c → I' c = I c) ∧ gl_mq (I ((1 + 7 + 19 * lg) + 1)) (I ((1 + 7 + 19 * lg) + 2)) (sn lg) (B ((1 + 7 + 19 * lg) + 7)) (wn lg) m mp ∧ gl_hr I' 701 (gl_ask (nI m) (nI lg) (I (1 + 7 + 19 * lg) 8) (gl_ltop (fun i => I ((1 + 7 + 19 * lg) + 1) i) (fun i => L ((1 + 7 + 19 * lg) + 4) i) m) (gl_mtree mp)) 0) := by
  refine gl_of (by decide) (Nat.le_of_ble_eq_true rfl) rfl ?_
  intro κ C hQ hlκ hδκ hnL hini
  change gl_Cx κ RX0 _ _ _ at C
  have hl6 := H.2.1
  have hL := hG.hs.lg lg (by omega)
  obtain ⟨hn9, hn4, hw10, hw1, hsn⟩ := H.2.2 lg hlg
  refine j_aload_n C dX0_headOf_0 rfl 1 rfl ?_
  refine gf_X0_12 C hG.o hG.r0 dX0_headOf_1 4 rfl ?_
  refine gf_X0_65 C hG.hs.o hG.hs.r0 dX0_headOf_4 7 rfl ?_
  refine j_iload_n C dX0_headOf_7 rfl 8 rfl ?_
  refine j_aald C (by decide) hG.hs.k1 (by omega) (by decide) dX0_headOf_8 9 rfl ?_
  rw [hG.hs.lr lg (by omega)]
  change gl_J _ _ _ _ _ _ (Value.ref _ :: _)
  refine j_astore_n C dX0_headOf_9 (Nat.le_of_ble_eq_true rfl) (by rw [hnL]; decide) rfl 10 rfl ?_
  refine j_aload_n C dX0_headOf_10 rfl 11 rfl ?_
  refine gf_X0_42 C hG.o hG.r4 dX0_headOf_11 14 rfl ?_
  refine j_iconst (v := b2i true) C dX0_headOf_14 (by decide) 15 rfl ?_
  refine pf_X0_121 C hG.ak.o dX0_headOf_15 18 rfl ?_
  refine j_aload_n C dX0_headOf_18 rfl 19 rfl ?_
  refine gf_X0_42 C hG.o hG.r4 dX0_headOf_19 22 rfl ?_
  refine j_iload_n C dX0_headOf_22 rfl 23 rfl ?_
  refine pf_X0_125 C hG.ak.o dX0_headOf_23 26 rfl ?_
  refine j_aload_n C dX0_headOf_26 rfl 27 rfl ?_
  refine gf_X0_42 C hG.o hG.r4 dX0_headOf_27 30 rfl ?_
  refine j_iload_n C dX0_headOf_30 rfl 31 rfl ?_
  refine pf_X0_128 C hG.ak.o dX0_headOf_31 34 rfl ?_
  refine j_aload_n C dX0_headOf_34 rfl 35 rfl ?_
  refine gf_X0_42 C hG.o hG.r4 dX0_headOf_35 38 rfl ?_
  refine j_aload_n C dX0_headOf_38 rfl 39 rfl ?_
  refine gf_X0_103 C hL.o dX0_headOf_39 42 rfl ?_
  rw [gl_u2_ne (show (1 + 7 + 19 * lg) ≠ 701 by omega), gl_u2_ne (show (1 + 7 + 19 * lg) ≠ 701 by omega)]
  refine pf_X0_131 C hG.ak.o dX0_headOf_42 45 rfl ?_
  refine j_aload_n C dX0_headOf_45 rfl 46 rfl ?_
  refine gf_X0_28 C hG.o hG.r2 dX0_headOf_46 49 rfl ?_
  refine j_cv C (cs_X0_132 C (ct_X7_begin (h - 1) (by omega) hG) hG.p0 rfl (by omega) (by omega) (by omega) rfl (Nat.le_of_ble_eq_true rfl) dX0_headOf_49) 52 rfl ?_
  rintro _ rfl
  obtain ⟨I1, hI1⟩ : ∃ x, x = gl_u2 (gl_u2 (gl_u2 (gl_u2 (gl_u2 I 701 3 (nI m)) 701 4 (nI lg)) 701 5 (I (1 + 7 + 19 * lg) 8)) 692 3 (nI 0)) 692 4 (nI 0) := ⟨_, rfl⟩
  rw [← hI1]
  have e1 : ∀ c, c ≠ 701 → c ≠ 692 → I1 c = I c := fun c q1 q2 => by rw [hI1, gl_u2_ne q2, gl_u2_ne q2, gl_u2_ne q1, gl_u2_ne q1, gl_u2_ne q1]
  have hg1 : gl_gp I1 [] := by rw [hI1]; exact gl_gp_0
  refine j_aload_n C dX0_headOf_52 rfl 53 rfl ?_
  refine j_aload_n C dX0_headOf_53 rfl 54 rfl ?_
  refine gf_X0_28 C hG.o hG.r2 dX0_headOf_54 57 rfl ?_
  refine j_iconst (v := nI 0) C dX0_headOf_57 (by decide) 58 rfl ?_
  refine j_iload_n C dX0_headOf_58 rfl 59 rfl ?_
  refine j_cv C (cs_X0_134 C (ct_X2_blocks (I := I1) (lo := (1 + 7 + 19 * lg)) (K := fun i => I ((1 + 7 + 19 * lg) + 1) i) (V := fun i => L ((1 + 7 + 19 * lg) + 4) i) (n := mn lg) (a := 0) (b := m) (p := []) (h - 1) (by omega) hL hG (by omega) (gl_sm_fr hsm (by omega) (fun r hr => e1 _ (by omega) (by omega))) hmm hn4 (Nat.zero_le _) hg1 rfl trivial) hL.o rfl (by omega) (by omega) (by omega) rfl (Nat.le_of_ble_eq_true rfl) dX0_headOf_59) 62 rfl ?_
  rintro _ ⟨I2, rfl, hf2, hg2⟩
  have hinv := gl_ll_inv (f := fun a e => gl_bs (fun i => I ((1 + 7 + 19 * lg) + 1) i) (fun i => L ((1 + 7 + 19 * lg) + 4) i) e a) (b := m) (m - 0) 0 [] (by omega) (Nat.zero_le _) rfl trivial
  have hlen := gl_inc_len hinv.2 (by decide) (by omega)
  refine j_aload_n C dX0_headOf_62 rfl 63 rfl ?_
  refine gf_X0_28 C hG.o hG.r2 dX0_headOf_63 66 rfl ?_
  refine j_aload_n C dX0_headOf_66 rfl 67 rfl ?_
  refine gf_X0_42 C hG.o hG.r4 dX0_headOf_67 70 rfl ?_
  refine gf_X0_138 C hG.ak.o hG.ak.r0 dX0_headOf_70 73 rfl ?_
  refine j_iconst (v := nI 0) C dX0_headOf_73 (by decide) 74 rfl ?_
  refine j_cv C (cs_X0_141 C (ct_X7_top (I := I2) (to := 701 + 1) (nt := 8) (at_ := 0) (h - 1) (by omega) hG hg2 (by omega) hG.ak.k1 (by decide) (by decide) (by decide)) hG.p0 rfl (by omega) (by omega) (by omega) rfl (Nat.le_of_ble_eq_true rfl) dX0_headOf_74) 77 rfl ?_
  rintro _ ⟨I3, rfl, h3, ht3⟩
  have e3 : ∀ c, c < 690 ∨ 695 ≤ c → c ≠ 701 → c ≠ 702 → I3 c = I c := fun c q1 q2 q3 => by rw [h3 c (by omega) (by omega) q3, hf2 c (by omega), e1 c q2 (by omega)]
  refine j_aload_n C dX0_headOf_77 rfl 78 rfl ?_
  refine gf_X0_35 C hG.o hG.r3 dX0_headOf_78 81 rfl ?_
  refine j_aload_n C dX0_headOf_81 rfl 82 rfl ?_
  refine j_iload_n C dX0_headOf_82 rfl 83 rfl ?_
  refine j_cv C (cs_X0_106 C (ct_X8_of (I := I3) (lo := (1 + 7 + 19 * lg)) (n := m) (wn := wn lg) (sn := sn lg) (h - 1) (by omega) hG hL (by omega) (by omega) (by rw [e3 _ (by omega) (by omega) (by omega)]; exact hw10) hw1 (fun w hw => by rw [e3 _ (by omega) (by omega) (by omega)]; exact (hsn w hw).1) (fun w hw => (hsn w hw).2)) hG.m0 rfl (by omega) (by omega) (by omega) rfl (Nat.le_of_ble_eq_true rfl) dX0_headOf_83) 86 rfl ?_
  rintro _ ⟨I4, mp, rfl, hf4, hm4, hs4, hl4, hq4⟩
  rw [e3 ((1 + 7 + 19 * lg) + 1) (by omega) (by omega) (by omega), e3 ((1 + 7 + 19 * lg) + 2) (by omega) (by omega) (by omega), gl_u2_ne (show (1 + 7 + 19 * lg) + 7 ≠ 701 by omega)] at hq4
  have e4 : ∀ c, c < 690 ∨ 701 < c → c ≠ 702 → I4 c = I c := fun c q1 q2 => by rw [hf4 c (by omega), e3 c (by omega) (by omega) q2]
  refine j_aload_n C dX0_headOf_86 rfl 87 rfl ?_
  refine gf_X0_35 C hG.o hG.r3 dX0_headOf_87 90 rfl ?_
  refine j_aload_n C dX0_headOf_90 rfl 91 rfl ?_
  refine gf_X0_42 C hG.o hG.r4 dX0_headOf_91 94 rfl ?_
  refine gf_X0_144 C hG.ak.o hG.ak.r1 dX0_headOf_94 97 rfl ?_
  refine j_iconst (v := nI 0) C dX0_headOf_97 (by decide) 98 rfl ?_
  refine j_cv C (cs_X0_147 C (ct_X8_top (I := I4) (m := mp) (to := 701 + 2) (nt := 8) (at_ := 0) (h - 1) (by omega) hG hm4 (by omega) hs4 hG.ak.k2 (by decide) (by decide) (by decide)) hG.m0 rfl (by omega) (by omega) (by omega) rfl (Nat.le_of_ble_eq_true rfl) dX0_headOf_98) 101 rfl ?_
  rintro _ ⟨I5, rfl, h5, ht5⟩
  have x5 : I5 701 = I3 701 := by rw [h5 701 (by decide) (by decide) (by decide) (by decide), hf4 701 (by decide)]
  have x3 : I3 701 = I1 701 := by rw [h3 701 (by decide) (by decide) (by decide), hf2 701 (by decide)]
  have y3 : I5 701 3 = nI m := by rw [x5, x3, hI1, gl_u2_ne (by decide), gl_u2_ne (by decide)]; rfl
  have y4 : I5 701 4 = nI lg := by rw [x5, x3, hI1, gl_u2_ne (by decide), gl_u2_ne (by decide)]; rfl
  have y5 : I5 701 5 = I (1 + 7 + 19 * lg) 8 := by rw [x5, x3, hI1, gl_u2_ne (by decide), gl_u2_ne (by decide)]; rfl
  have yt : ∀ j, j < 8 → I5 702 j = (gl_ltop (fun i => I ((1 + 7 + 19 * lg) + 1) i) (fun i => L ((1 + 7 + 19 * lg) + 4) i) m) j := fun j hj => by
    have a1 : I5 702 = I3 702 := by rw [h5 702 (by decide) (by decide) (by decide) (by decide), hf4 702 (by decide)]
    have a2 : I3 702 = _ := ht3
    rw [a1, a2, pk_cpy_in (by omega) (by omega), show 0 + (j - 0) = j by omega]; rfl
  have yu : ∀ j, j < 8 → I5 703 j = gl_mtree mp j := fun j hj => by
    have a2 : I5 703 = _ := ht5
    rw [a2, pk_cpy_in (by omega) (by omega), show 0 + (j - 0) = j by omega]
  refine j_aload_n C dX0_headOf_101 rfl 102 rfl ?_
  refine gf_X0_42 C hG.o hG.r4 dX0_headOf_102 105 rfl ?_
  refine j_aload_n C dX0_headOf_105 rfl 106 rfl ?_
  refine gf_X0_19 C hG.o hG.r1 dX0_headOf_106 109 rfl ?_
  refine j_aload_n C dX0_headOf_109 rfl 110 rfl ?_
  refine gf_X0_42 C hG.o hG.r4 dX0_headOf_110 113 rfl ?_
  refine gf_X0_148 C hG.ak.o hG.ak.r2 dX0_headOf_113 116 rfl ?_
  refine j_cv C (cs_X0_149 C (ct_X4_marks (I := I5) (d := 701) (to := 701 + 3) (nt := 8) (h - 1) (by omega) hG.ak hG (by decide) hG.ak.k3 (by decide) (by decide) (by decide)) (x := 0) hG.ak.o rfl (by omega) (by omega) (by omega) rfl (Nat.le_of_ble_eq_true rfl) dX0_headOf_116) 119 rfl ?_
  rintro _ ⟨I6, rfl, h6, ht6⟩
  refine j_aload_n C dX0_headOf_119 rfl 120 rfl ?_
  refine gf_X0_42 C hG.o hG.r4 dX0_headOf_120 123 rfl ?_
  refine j_aret C (Or.inl ⟨_, rfl⟩) hQ ⟨rfl, mp, _, rfl, fun c q1 => by rw [h6 c (by omega) (by omega) (by omega), h5 c (by omega) (by omega) (by omega) (by omega), e4 c (by omega) (by omega)], ⟨hs4, hl4, hq4⟩, ?_⟩ (by omega) (by omega) dX0_headOf_123
  have z : ∀ c, c ≠ 690 → c ≠ 691 → c ≠ 704 → I6 c = I5 c := h6
  refine ⟨by rw [z 701 (by decide) (by decide) (by decide)]; exact y3, by rw [z 701 (by decide) (by decide) (by decide)]; exact y4, by rw [z 701 (by decide) (by decide) (by decide)]; exact y5, fun j hj => ⟨?_, ?_, ?_⟩⟩
  · rw [show (701 + 1 : Nat) = 702 from rfl, z 702 (by decide) (by decide) (by decide), yt j hj]
    unfold gl_ask
    rw [if_neg (by omega), if_neg (by omega), if_neg (by omega), if_neg (by omega), if_pos (by omega), show 0 + 4 + j - 4 = j by omega]
  · rw [show (701 + 2 : Nat) = 703 from rfl, z 703 (by decide) (by decide) (by decide), yu j hj]
    unfold gl_ask
    rw [if_neg (by omega), if_neg (by omega), if_neg (by omega), if_neg (by omega), if_neg (by omega), if_pos (by omega), show 0 + 12 + j - 12 = j by omega]
  · rw [ht6, pk_cpy_in (by omega) (by omega), show 0 + (j - 0) = j by omega, show (701 + 1 : Nat) = 702 from rfl, show (701 + 2 : Nat) = 703 from rfl, y3, y5, gl_mark_congr yt yu]
    unfold gl_ask
    rw [if_neg (by omega), if_neg (by omega), if_neg (by omega), if_neg (by omega), if_neg (by omega), if_neg (by omega), show 0 + 20 + j - 20 = j by omega]
