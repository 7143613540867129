/-! MODULE Model, piles: lay, top, layLog (by gen34.py) -/
set_option maxRecDepth 100000
theorem gl_cpy_congr {a a' b : Nat → Int32} {dp n : Nat} (h : ∀ t, t < n → a t = a' t) : va_cpy a b 0 dp n = va_cpy a' b 0 dp n := by
  funext k
  unfold va_cpy
  by_cases hk : dp ≤ k ∧ k < dp + n
  · rw [if_pos hk, if_pos hk, h _ (by omega)]
  · rw [if_neg hk, if_neg hk]
theorem gl_cpy_cpy {a a' b : Nat → Int32} {dp n : Nat} : va_cpy a (va_cpy a' b 0 dp n) 0 dp n = va_cpy a b 0 dp n := by
  funext k
  unfold va_cpy
  by_cases hk : dp ≤ k ∧ k < dp + n
  · rw [if_pos hk, if_pos hk]
  · rw [if_neg hk, if_neg hk, if_neg hk]
theorem gl_mod_pow {a e nx : Nat} (hn : nx = 2 ^ e + 2 ^ e + a) : nx % 2 ^ (e + 1) = a % (2 * 2 ^ e) := by
  rw [hn, show 2 ^ e + 2 ^ e + a = a + 2 * 2 ^ e by omega, Nat.pow_succ, Nat.mul_comm (2 ^ e) 2, Nat.add_mod_right]
set_option maxHeartbeats 4000000 in
set_option maxRecDepth 100000 in
theorem ct_X9_lay {l : Launch} {δ : gl_Del} {I : Nat → Nat → Int32} {L : Nat → Nat → Int64} {B : Nat → Nat → Bool} {p : gl_Pl} {e rw_ nr q_ : Nat} (h : Nat) (hh : 4 ≤ h) (hp : gl_mp I p) (hln : p.length < 64) (hsz : gl_sz p + 2 ^ e ≤ 1000) (hr : gl_msh rw_ = (0, nr)) (hr2 : rw_ ≠ 42) (hr3 : rw_ ≠ 43) (hr4 : rw_ ≠ 44) (hq : q_ + 8 ≤ nr) (hnr : nr < 2 ^ 31) : gl_Ct l δ yX9_lay (ws_ yX9_lay cX9_lay 6 none) (gl_rm h 0 0) 0 0 [.ref 0, .int (nI (gl_sz p)), .int (nI (2 ^ e)), .ref rw_, .int (nI q_)] (gl_mL, I, L, B, gl_mR) (gl_Qv fun S => ∃ I', S = (gl_mL, I', L, B, gl_mR) ∧ gl_fq [39, 40, 42, 43, 44] [49] I I' ∧ gl_mp I' (gl_lay (gl_sz p) e (fun t => I rw_ (q_ + t)) p)) := by
  refine gl_of (by decide) (Nat.le_of_ble_eq_true rfl) rfl ?_
  intro κ C hQ hlκ hδκ hnL hini
  change gl_Cx κ RX9 _ _ _ at C
  have h0e : 0 < 2 ^ e := Nat.two_pow_pos e
  obtain ⟨nx, hnx0⟩ : ∃ nx, nx = gl_sz p + 2 ^ e := ⟨_, rfl⟩
  have merge : ∀ (p1 : gl_Pl) (e1 : Nat) (r1 : Nat → Int32) (I1 : Nat → Nat → Int32), gl_mp I1 ((e1, r1) :: p1) → gl_fq [39, 40, 42, 43, 44] [49] I I1 → gl_sz ((e1, r1) :: p1) = nx → p1.length < 64 → gl_mg nx e1 r1 p1 = gl_lay (gl_sz p) e (fun t => I rw_ (q_ + t)) p → gl_J κ 0 0 (gl_mL, I1, L, B, gl_mR) 68 [some (.ref 0), some (.int (nI (gl_sz p))), some (.int (nI (2 ^ e))), some (.ref rw_), some (.int (nI q_)), some (.int (nI 8))] [] := by
    intro p1
    induction p1 with
    | nil =>
      intro e1 r1 I1 hm hf hnx hlen htg
      have hb : I1 0 49 = nI 1 := hm.1
      refine j_aload_n C dX9_lay_68 rfl 69 rfl ?_
      refine gf_X9_208 C rfl dX9_lay_69 72 rfl ?_
      rw [hb]
      refine j_iconst (v := nI 1) C dX9_lay_72 (by decide) 73 rfl ?_
      refine n_icmp_le C 200 76 dX9_lay_73 (by decide) rfl (by omega) (by omega) (fun c_73 => ?_) (fun c_73 => ?_)
      · exact j_ret C hQ ⟨_, rfl, hf, by rw [← htg]; exact hm⟩ (by omega) (by omega) dX9_lay_200
      · exact absurd c_73 (by omega)
    | cons pr p1 ih =>
      obtain ⟨e2, r2⟩ := pr
      intro e1 r1 I1 hm hf hnx hlen htg
      obtain ⟨q, hq⟩ : ∃ q, q = p1.length := ⟨_, rfl⟩
      have hb : I1 0 49 = nI (q + 2) := by rw [hq]; exact hm.1
      have hz : I1 43 (q + 1) = nI (2 ^ e1) := by rw [hq]; exact hm.2.2.1
      have hz0 : I1 43 q = nI (2 ^ e2) := by rw [hq]; exact hm.2.2.2.2.2.1
      have hF0 : I1 42 q = nI (gl_sz p1) := by rw [hq]; exact hm.2.2.2.2.1
      have hnx1 : 2 ^ e1 + (2 ^ e2 + gl_sz p1) = nx := hnx
      have hlen1 : q + 1 < 64 := by rw [hq]; exact hlen
      have h01 : 0 < 2 ^ e1 := Nat.two_pow_pos e1
      have h02 : 0 < 2 ^ e2 := Nat.two_pow_pos e2
      refine j_aload_n C dX9_lay_68 rfl 69 rfl ?_
      refine gf_X9_208 C rfl dX9_lay_69 72 rfl ?_
      rw [hb]
      refine j_iconst (v := nI 1) C dX9_lay_72 (by decide) 73 rfl ?_
      refine n_icmp_le C 200 76 dX9_lay_73 (by decide) rfl (by omega) (by omega) (fun c_73 => ?_) (fun c_73 => ?_)
      · exact absurd c_73 (by omega)
      · refine j_aload_n C dX9_lay_76 rfl 77 rfl ?_
        refine gf_X9_139 C rfl rfl dX9_lay_77 80 rfl ?_
        refine j_aload_n C dX9_lay_80 rfl 81 rfl ?_
        refine gf_X9_208 C rfl dX9_lay_81 84 rfl ?_
        rw [hb]
        refine j_iconst (v := nI 1) C dX9_lay_84 (by decide) 85 rfl ?_
        refine n_isub C dX9_lay_85 (by omega) 86 rfl ?_
        rw [show q + 2 - 1 = q + 1 by omega]
        refine j_iald C rfl (by omega) (by decide) dX9_lay_86 87 rfl ?_
        rw [hz]
        refine j_aload_n C dX9_lay_87 rfl 88 rfl ?_
        refine gf_X9_139 C rfl rfl dX9_lay_88 91 rfl ?_
        refine j_aload_n C dX9_lay_91 rfl 92 rfl ?_
        refine gf_X9_208 C rfl dX9_lay_92 95 rfl ?_
        rw [hb]
        refine j_iconst (v := nI 2) C dX9_lay_95 (by decide) 96 rfl ?_
        refine n_isub C dX9_lay_96 (by omega) 97 rfl ?_
        rw [show q + 2 - 2 = q by omega]
        refine j_iald C rfl (by omega) (by decide) dX9_lay_97 98 rfl ?_
        rw [hz0]
        refine n_icmp_ne C 200 101 dX9_lay_98 (by decide) rfl (by omega) (by omega) (fun c_98 => ?_) (fun c_98 => ?_)
        · exact j_ret C hQ ⟨_, rfl, hf, by rw [← htg, gl_mg, if_neg (fun w => c_98 (by rw [w.1]))]; exact hm⟩ (by omega) (by omega) dX9_lay_200
        · refine j_aload_n C dX9_lay_101 rfl 102 rfl ?_
          refine gf_X9_136 C rfl rfl dX9_lay_102 105 rfl ?_
          refine j_aload_n C dX9_lay_105 rfl 106 rfl ?_
          refine gf_X9_208 C rfl dX9_lay_106 109 rfl ?_
          rw [hb]
          refine j_iconst (v := nI 2) C dX9_lay_109 (by decide) 110 rfl ?_
          refine n_isub C dX9_lay_110 (by omega) 111 rfl ?_
          rw [show q + 2 - 2 = q by omega]
          refine j_iald C rfl (by omega) (by decide) dX9_lay_111 112 rfl ?_
          rw [hF0]
          refine j_iconst (v := nI 2) C dX9_lay_112 (by decide) 113 rfl ?_
          refine j_aload_n C dX9_lay_113 rfl 114 rfl ?_
          refine gf_X9_139 C rfl rfl dX9_lay_114 117 rfl ?_
          refine j_aload_n C dX9_lay_117 rfl 118 rfl ?_
          refine gf_X9_208 C rfl dX9_lay_118 121 rfl ?_
          rw [hb]
          refine j_iconst (v := nI 1) C dX9_lay_121 (by decide) 122 rfl ?_
          refine n_isub C dX9_lay_122 (by omega) 123 rfl ?_
          rw [show q + 2 - 1 = q + 1 by omega]
          refine j_iald C rfl (by omega) (by decide) dX9_lay_123 124 rfl ?_
          rw [hz]
          refine n_imul C dX9_lay_124 125 rfl ?_
          refine n_irem C dX9_lay_125 (by omega) (by omega) (by omega) 126 rfl ?_
          refine n_if_ne C 200 129 dX9_lay_126 (by decide) rfl (Nat.lt_of_le_of_lt (Nat.mod_le _ _) (by omega)) (fun c_126 => ?_) (fun c_126 => ?_)
          · exact j_ret C hQ ⟨_, rfl, hf, by rw [← htg, gl_mg, if_neg (fun w => c_126 (by rw [← gl_mod_pow (e := e1) (nx := nx) (by rw [← hnx, gl_sz, gl_sz, w.1]; omega)]; exact w.2))]; exact hm⟩ (by omega) (by omega) dX9_lay_200
          · refine j_aload_n C dX9_lay_129 rfl 130 rfl ?_
            refine j_aload_n C dX9_lay_130 rfl 131 rfl ?_
            refine gf_X9_142 C rfl rfl dX9_lay_131 134 rfl ?_
            refine j_bipush (v := nI 8) C dX9_lay_134 (by decide) 136 rfl ?_
            refine j_aload_n C dX9_lay_136 rfl 137 rfl ?_
            refine gf_X9_208 C rfl dX9_lay_137 140 rfl ?_
            rw [hb]
            refine j_iconst (v := nI 2) C dX9_lay_140 (by decide) 141 rfl ?_
            refine n_isub C dX9_lay_141 (by omega) 142 rfl ?_
            rw [show q + 2 - 2 = q by omega]
            refine n_imul C dX9_lay_142 143 rfl ?_
            refine j_aload_n C dX9_lay_143 rfl 144 rfl ?_
            refine gf_X9_142 C rfl rfl dX9_lay_144 147 rfl ?_
            refine j_bipush (v := nI 8) C dX9_lay_147 (by decide) 149 rfl ?_
            refine j_aload_n C dX9_lay_149 rfl 150 rfl ?_
            refine gf_X9_208 C rfl dX9_lay_150 153 rfl ?_
            rw [hb]
            refine j_iconst (v := nI 1) C dX9_lay_153 (by decide) 154 rfl ?_
            refine n_isub C dX9_lay_154 (by omega) 155 rfl ?_
            rw [show q + 2 - 1 = q + 1 by omega]
            refine n_imul C dX9_lay_155 156 rfl ?_
            refine j_aload_n C dX9_lay_156 rfl 157 rfl ?_
            refine gf_X9_142 C rfl rfl dX9_lay_157 160 rfl ?_
            refine j_bipush (v := nI 8) C dX9_lay_160 (by decide) 162 rfl ?_
            refine j_aload_n C dX9_lay_162 rfl 163 rfl ?_
            refine gf_X9_208 C rfl dX9_lay_163 166 rfl ?_
            rw [hb]
            refine j_iconst (v := nI 2) C dX9_lay_166 (by decide) 167 rfl ?_
            refine n_isub C dX9_lay_167 (by omega) 168 rfl ?_
            rw [show q + 2 - 2 = q by omega]
            refine n_imul C dX9_lay_168 169 rfl ?_
            refine j_cv C (cs_X9_204 C (ct_X9_join (I := I1) (nx := 512) (ny := 512) (nt := 512) (h - 1) (by omega) rfl (by decide) (by decide) (by omega) (by decide) rfl (by decide) (by decide) (by omega) (by decide) rfl (by decide) (by decide) (by omega) (by decide)) rfl rfl (by omega) (by omega) (by omega) rfl (Nat.le_of_ble_eq_true rfl) dX9_lay_169) 172 rfl ?_
            rintro _ ⟨w, m, rfl⟩
            refine j_aload_n C dX9_lay_172 rfl 173 rfl ?_
            refine gf_X9_139 C rfl rfl dX9_lay_173 176 rfl ?_
            refine j_aload_n C dX9_lay_176 rfl 177 rfl ?_
            refine gf_X9_208 C rfl dX9_lay_177 180 rfl ?_
            rw [gl_up_ne (show (0 : Nat) ≠ 44 by decide), gl_wm_o (by decide) (by decide), hb]
            refine j_iconst (v := nI 2) C dX9_lay_180 (by decide) 181 rfl ?_
            refine n_isub C dX9_lay_181 (by omega) 182 rfl ?_
            rw [show q + 2 - 2 = q by omega]
            refine j_dup2 C dX9_lay_182 rfl rfl 183 rfl ?_
            refine j_iald C rfl (by omega) (by decide) dX9_lay_183 184 rfl ?_
            rw [gl_up_ne (show (43 : Nat) ≠ 44 by decide), gl_wm_o (by decide) (by decide), hz0]
            refine j_iconst (v := nI 2) C dX9_lay_184 (by decide) 185 rfl ?_
            refine n_imul C dX9_lay_185 186 rfl ?_
            refine j_iast C rfl (by omega) (by decide) dX9_lay_186 187 rfl ?_
            refine j_aload_n C dX9_lay_187 rfl 188 rfl ?_
            refine j_dup C dX9_lay_188 rfl 189 rfl ?_
            refine gf_X9_208 C rfl dX9_lay_189 192 rfl ?_
            rw [gl_u2_ne (show (0 : Nat) ≠ 43 by decide), gl_up_ne (show (0 : Nat) ≠ 44 by decide), gl_wm_o (by decide) (by decide), hb]
            refine j_iconst (v := nI 1) C dX9_lay_192 (by decide) 193 rfl ?_
            refine n_isub C dX9_lay_193 (by omega) 194 rfl ?_
            rw [show q + 2 - 1 = q + 1 by omega]
            refine pf_X9_208 C rfl dX9_lay_194 197 rfl ?_
            refine j_goto (tgt := 68) C dX9_lay_197 (by decide) ?_
            have hee : e2 = e1 := by
              rcases Nat.lt_trichotomy e2 e1 with hh1 | hh1 | hh1
              · exact absurd c_98 (Nat.ne_of_gt (Nat.pow_lt_pow_right (by decide) hh1))
              · exact hh1
              · exact absurd c_98 (Nat.ne_of_lt (Nat.pow_lt_pow_right (by decide) hh1))
            have hnx2 : nx % 2 ^ (e1 + 1) = 0 := by
              rw [gl_mod_pow (e := e1) (a := gl_sz p1) (by rw [← hnx, gl_sz, gl_sz, hee]; omega)]
              exact c_126
            subst hq
            refine ih (e2 + 1) _ _ (gl_mp_step hm) ((((hf.wm (by decide) (by decide)).up (by decide) (by decide)).u2 (by decide) (by decide)).sc (by decide)) ?_ (by simp only [List.length_cons] at hlen ⊢; omega) ?_
            · rw [← hnx, gl_sz, gl_sz, gl_sz, hee, Nat.pow_succ]; omega
            · rw [← htg, gl_mg, if_pos ⟨hee, hnx2⟩, hee]
  have loop : ∀ k j : Nat, j + k = 8 → gl_J κ 0 0 (gl_mL, va_up (gl_u2 (gl_u2 I 42 p.length (nI (gl_sz p))) 43 p.length (nI (2 ^ e))) 44 (va_cpy (fun t => I rw_ (q_ + t)) (I 44) 0 (8 * p.length) j), L, B, gl_mR) 23 [some (.ref 0), some (.int (nI (gl_sz p))), some (.int (nI (2 ^ e))), some (.ref rw_), some (.int (nI q_)), some (.int (nI j))] [] := by
    intro k
    induction k with
    | zero =>
      intro j hj
      have hjN : j = 8 := by omega
      subst hjN
      refine j_iload C dX9_lay_23 rfl 25 rfl ?_
      refine j_bipush (v := nI 8) C dX9_lay_25 (by decide) 27 rfl ?_
      refine n_icmp_ge C 58 30 dX9_lay_27 (by decide) rfl (by omega) (by omega) (fun c_27 => ?_) (fun c_27 => ?_)
      · refine j_aload_n C dX9_lay_58 rfl 59 rfl ?_
        refine j_dup C dX9_lay_59 rfl 60 rfl ?_
        refine gf_X9_208 C rfl dX9_lay_60 63 rfl ?_
        rw [gl_up_ne (show (0 : Nat) ≠ 44 by decide), gl_u2_ne (show (0 : Nat) ≠ 43 by decide), gl_u2_ne (show (0 : Nat) ≠ 42 by decide), hp.1]
        refine j_iconst (v := nI 1) C dX9_lay_63 (by decide) 64 rfl ?_
        refine n_iadd C dX9_lay_64 65 rfl ?_
        refine pf_X9_208 C rfl dX9_lay_65 68 rfl ?_
        exact merge p e _ _ (gl_mp_push hp) ((((gl_fq.rf.u2 (by decide) (by decide)).u2 (by decide) (by decide)).up (by decide) (by decide)).sc (by decide)) (by rw [hnx0, gl_sz]; omega) hln (by rw [hnx0]; rfl)
      · exact absurd c_27 (by omega)
    | succ k ih =>
      intro j hj
      refine j_iload C dX9_lay_23 rfl 25 rfl ?_
      refine j_bipush (v := nI 8) C dX9_lay_25 (by decide) 27 rfl ?_
      refine n_icmp_ge C 58 30 dX9_lay_27 (by decide) rfl (by omega) (by omega) (fun c_27 => ?_) (fun c_27 => ?_)
      · exact absurd c_27 (by omega)
      · refine j_aload_n C dX9_lay_30 rfl 31 rfl ?_
        refine gf_X9_142 C rfl rfl dX9_lay_31 34 rfl ?_
        refine j_bipush (v := nI 8) C dX9_lay_34 (by decide) 36 rfl ?_
        refine j_aload_n C dX9_lay_36 rfl 37 rfl ?_
        refine gf_X9_208 C rfl dX9_lay_37 40 rfl ?_
        rw [gl_up_ne (show (0 : Nat) ≠ 44 by decide), gl_u2_ne (show (0 : Nat) ≠ 43 by decide), gl_u2_ne (show (0 : Nat) ≠ 42 by decide), hp.1]
        refine n_imul C dX9_lay_40 41 rfl ?_
        refine j_iload C dX9_lay_41 rfl 43 rfl ?_
        refine n_iadd C dX9_lay_43 44 rfl ?_
        refine j_aload_n C dX9_lay_44 rfl 45 rfl ?_
        refine j_iload C dX9_lay_45 rfl 47 rfl ?_
        refine j_iload C dX9_lay_47 rfl 49 rfl ?_
        refine n_iadd C dX9_lay_49 50 rfl ?_
        refine j_iald C hr (by omega) hnr dX9_lay_50 51 rfl ?_
        rw [gl_up_ne hr4, gl_u2_ne hr3, gl_u2_ne hr2]
        refine j_iast C rfl (by omega) (by decide) dX9_lay_51 52 rfl ?_
        refine n_iinc C dX9_lay_52 rfl (by rw [hnL]; decide) rfl 55 rfl ?_
        refine j_goto (tgt := 23) C dX9_lay_55 (by decide) ?_
        rw [gl_u2_up, gl_cpy_s (a := (fun t => I rw_ (q_ + t)))]
        exact ih (j + 1) (by omega)
  refine j_aload_n C dX9_lay_0 rfl 1 rfl ?_
  refine gf_X9_136 C rfl rfl dX9_lay_1 4 rfl ?_
  refine j_aload_n C dX9_lay_4 rfl 5 rfl ?_
  refine gf_X9_208 C rfl dX9_lay_5 8 rfl ?_
  rw [hp.1]
  refine j_iload_n C dX9_lay_8 rfl 9 rfl ?_
  refine j_iast C rfl (by omega) (by decide) dX9_lay_9 10 rfl ?_
  refine j_aload_n C dX9_lay_10 rfl 11 rfl ?_
  refine gf_X9_139 C rfl rfl dX9_lay_11 14 rfl ?_
  refine j_aload_n C dX9_lay_14 rfl 15 rfl ?_
  refine gf_X9_208 C rfl dX9_lay_15 18 rfl ?_
  rw [gl_u2_ne (show (0 : Nat) ≠ 42 by decide), hp.1]
  refine j_iload_n C dX9_lay_18 rfl 19 rfl ?_
  refine j_iast C rfl (by omega) (by decide) dX9_lay_19 20 rfl ?_
  refine j_iconst (v := nI 0) C dX9_lay_20 (by decide) 21 rfl ?_
  refine j_istore C dX9_lay_21 (Nat.le_of_ble_eq_true rfl) (by rw [hnL]; decide) rfl 23 rfl ?_
  have := loop 8 0 rfl
  rw [gl_cpy_0, show va_up (gl_u2 (gl_u2 I 42 p.length (nI (gl_sz p))) 43 p.length (nI (2 ^ e))) 44 (I 44) = gl_u2 (gl_u2 I 42 p.length (nI (gl_sz p))) 43 p.length (nI (2 ^ e)) by rw [show I 44 = (gl_u2 (gl_u2 I 42 p.length (nI (gl_sz p))) 43 p.length (nI (2 ^ e))) 44 by rw [gl_u2_ne (show (44 : Nat) ≠ 43 by decide), gl_u2_ne (show (44 : Nat) ≠ 42 by decide)], gl_up_self]] at this
  exact this
