/-! MODULE Model, proofs tried: isSpanRight, isGrownRight, isWayRight, check (by gen51.py) -/
set_option maxRecDepth 100000
/-- entries laid one by one -/
def gl_le (K : Nat → Int32) (V : Nat → Int64) (a : Nat) : Nat → Nat → gl_Pl → gl_Pl
  | 0, _, p => p
  | c + 1, j, p => gl_le K V a c (j + 1) (gl_lay (a + j) 0 (gl_entry (K j) (V j)) p)
theorem gl_le_inv {K : Nat → Int32} {V : Nat → Int64} {a : Nat} : ∀ (c j : Nat) (p : gl_Pl), gl_sz p = a + j → gl_inc 0 p → gl_sz (gl_le K V a c j p) = a + j + c ∧ gl_inc 0 (gl_le K V a c j p)
  | 0, j, p, hs, hi => ⟨hs, hi⟩
  | c + 1, j, p, hs, hi => by
    have := gl_le_inv (K := K) (V := V) (a := a) c (j + 1) (gl_lay (a + j) 0 (gl_entry (K j) (V j)) p) (by rw [gl_sz_lay, hs]; omega) (by rw [← hs]; exact gl_inc_lay hi (Nat.mod_one _))
    exact ⟨this.1.trans (by omega), this.2⟩
theorem gl_le_congr {K K' : Nat → Int32} {V V' : Nat → Int64} {a : Nat} : ∀ (c j : Nat) (p : gl_Pl), (∀ i, j ≤ i → i < j + c → K i = K' i ∧ V i = V' i) → gl_le K V a c j p = gl_le K' V' a c j p
  | 0, j, p, h => rfl
  | c + 1, j, p, h => by
    unfold gl_le
    rw [(h j (Nat.le_refl j) (by omega)).1, (h j (Nat.le_refl j) (by omega)).2]
    exact gl_le_congr c (j + 1) _ (fun i h1 h2 => h i (by omega) (by omega))
/-- the top that a span's steps and entries make -/
def gl_spT (row : Nat → Nat → Int32) (K : Nat → Int32) (V : Nat → Int64) (a b n : Nat) : Nat → Int32 := gl_top (gl_ls row n (n - b) b (gl_bls a a 0).length (gl_le K V a (b - a) 0 (gl_ls row a a 0 0 [])))
def gl_grP (row : Nat → Nat → Int32) (a : Nat) : gl_Pl := gl_ls row a a 0 0 []
def gl_grQ (row : Nat → Nat → Int32) (a n : Nat) : gl_Pl := gl_ls row n (n - a) a (gl_bls a a 0).length (gl_grP row a)
def gl_eb (kd fa sb : Nat → Nat) (s : Nat) : Nat := if kd s = 1 then fa s + 1 else sb s
set_option maxHeartbeats 4000000 in
set_option maxRecDepth 100000 in
theorem ct_X9_isSpanRight {l : Launch} {δ : gl_Del} {I : Nat → Nat → Int32} {L : Nat → Nat → Int64} {B : Nat → Nat → Bool} {kd sm nn fa sb : Nat → Nat} {s q : Nat} (h : Nat) (hh : 6 ≤ h) (P : gl_SI I kd sm nn fa sb) (hs : s < 16) (hkd : kd s = 1 ∨ kd s = 5) (hq : q + 28 ≤ 336) : gl_Ct l δ yX9_isSpanRight (ws_ yX9_isSpanRight cX9_isSpanRight 7 ((some FieldType.boolean))) (gl_rm h 0 0) 0 0 [.ref 0, .int (nI s), .ref 13, .int (nI q)] (gl_mL, I, L, B, gl_mR) (gl_Qi fun r S => r = b2i (gl_lk (gl_spT (gl_stp I s) (fun j => I 10 (40 * s + j)) (fun j => L 11 (40 * s + j)) (fa s) (gl_eb kd fa sb s) (nn s)) (fun t => I 13 (q + 4 + t)) 8) ∧ ∃ I', S = (gl_mL, I', L, B, gl_mR) ∧ gl_fq [39, 40, 42, 43, 44, 45, 46, 55, 56] [49, 63] I I') := by
  refine gl_of (by decide) (Nat.le_of_ble_eq_true rfl) rfl ?_
  intro κ C hQ hlκ hδκ hnL hini
  change gl_Cx κ RX9 _ _ _ at C
  obtain ⟨k0, kb, k1, k1b, k2, k2b, k3, k4, k4b, k5, k6, k7⟩ := P s hs
  have lb1 : (gl_bls (fa s) (fa s) 0).length ≤ 19 := gl_bls_len (by omega) (by omega)
  have lb1' : (gl_bls (fa s) (fa s - 0) 0).length ≤ 19 := gl_bls_len (by omega) (by omega)
  have lb2 : ∀ b, b ≤ nn s → (gl_bls (nn s) (nn s - b) b).length ≤ 19 := fun b hb => gl_bls_len (by omega) hb
  have main : ∀ b, fa s ≤ b → b ≤ nn s → b ≤ fa s + 40 → b = gl_eb kd fa sb s → ∀ x5 x6 : Option Value, gl_J κ 0 0 (gl_mL, I, L, B, gl_mR) 44 [some (.ref 0), some (.int (nI s)), some (.ref 13), some (.int (nI q)), some (.int (nI (fa s))), x5, x6] [.int (nI b)] := by
    intro b hb1 hb2 hb3 hbe x5 x6
    rw [← hbe] at hQ
    have lb := lb2 b hb2
    have loop : ∀ (c j : Nat) (p : gl_Pl) (I1 : Nat → Nat → Int32), j + c = b - fa s → gl_mp I1 p → gl_sz p = fa s + j → gl_inc 0 p → gl_fq [39, 40, 42, 43, 44, 45, 46, 55, 56] [49, 63] I I1 → I1 0 63 = nI (gl_bls (fa s) (fa s) 0).length → gl_top (gl_ls (gl_stp I s) (nn s) (nn s - b) b (gl_bls (fa s) (fa s) 0).length (gl_le (fun j => I 10 (40 * s + j)) (fun j => L 11 (40 * s + j)) (fa s) c j p)) = gl_spT (gl_stp I s) (fun j => I 10 (40 * s + j)) (fun j => L 11 (40 * s + j)) (fa s) b (nn s) → gl_J κ 0 0 (gl_mL, I1, L, B, gl_mR) 68 [some (.ref 0), some (.int (nI s)), some (.ref 13), some (.int (nI q)), some (.int (nI (fa s))), some (.int (nI b)), some (.int (nI (fa s + j)))] [] := by
      intro c
      induction c with
      | zero =>
        intro j p I1 hj hm hs1 hi hf hu htg
        change gl_top (gl_ls (gl_stp I s) (nn s) (nn s - b) b (gl_bls (fa s) (fa s) 0).length p) = _ at htg
        have hjb : fa s + j = b := by omega
        rw [hjb]
        refine j_iload C dX9_isSpanRight_68 rfl 70 rfl ?_
        refine j_iload C dX9_isSpanRight_70 rfl 72 rfl ?_
        refine n_icmp_ge C 132 75 dX9_isSpanRight_72 (by decide) rfl (by omega) (by omega) (fun c_72 => ?_) (fun c_72 => ?_)
        · refine j_aload_n C dX9_isSpanRight_132 rfl 133 rfl ?_
          refine j_iload_n C dX9_isSpanRight_133 rfl 134 rfl ?_
          refine j_iload C dX9_isSpanRight_134 rfl 136 rfl ?_
          refine j_aload_n C dX9_isSpanRight_136 rfl 137 rfl ?_
          refine gf_X9_36 C rfl rfl dX9_isSpanRight_137 140 rfl ?_
          refine j_bipush (v := nI 8) C dX9_isSpanRight_140 (by decide) 142 rfl ?_
          refine j_iload_n C dX9_isSpanRight_142 rfl 143 rfl ?_
          refine n_imul C dX9_isSpanRight_143 144 rfl ?_
          refine j_iconst (v := nI 2) C dX9_isSpanRight_144 (by decide) 145 rfl ?_
          refine n_iadd C dX9_isSpanRight_145 146 rfl ?_
          refine j_iald C rfl (by omega) (by decide) dX9_isSpanRight_146 147 rfl ?_
          rw [hf.1 9 (by decide) (by decide), k2]
          refine j_cv C (cs_X9_315 C (ct_X9_laySteps (I := I1) (p0 := p) (s := s) (a0 := b) (b := (nn s)) (u0 := (gl_bls (fa s) (fa s) 0).length) (h - 1) (by omega) hs hm (by omega) hi (by omega) (by omega) hu (by omega)) rfl rfl (by omega) (by omega) (by omega) rfl (Nat.le_of_ble_eq_true rfl) dX9_isSpanRight_147) 150 rfl ?_
          rintro _ ⟨I2, rfl, f2, u2, m2⟩
          rw [show gl_stp I1 s = gl_stp I s by unfold gl_stp; rw [hf.1 12 (by decide) (by decide)]] at m2
          have sz2 := gl_ls_inv (row := gl_stp I s) (b := nn s) (nn s - b) b (gl_bls (fa s) (fa s) 0).length p (Nat.le_refl _) (by omega) (by omega) hi
          have ln2 := gl_inc_len sz2.2 (by decide) (by omega)
          refine j_aload_n C dX9_isSpanRight_150 rfl 151 rfl ?_
          refine j_aload_n C dX9_isSpanRight_151 rfl 152 rfl ?_
          refine gf_X9_178 C rfl rfl dX9_isSpanRight_152 155 rfl ?_
          refine j_iconst (v := nI 0) C dX9_isSpanRight_155 (by decide) 156 rfl ?_
          refine j_cv C (cs_X9_258 C (ct_X9_top (I := I2) (p := (gl_ls (gl_stp I s) (nn s) (nn s - b) b (gl_bls (fa s) (fa s) 0).length p)) (to := 56) (nt := 8) (at_ := 0) (h - 1) (by omega) m2 (by omega) rfl (by decide) (by decide) (by decide) (by decide) (by decide) (by decide) (by decide)) rfl rfl (by omega) (by omega) (by omega) rfl (Nat.le_of_ble_eq_true rfl) dX9_isSpanRight_156) 159 rfl ?_
          rintro _ ⟨I3, rfl, f3, r3⟩
          have q3 : gl_fq [39, 40, 42, 43, 44, 45, 46, 55, 56] [49, 63] I I3 := (hf.tr (f2.mo (by decide) (by decide))).tr (f3.mo (by decide) (by decide))
          refine j_aload_n C dX9_isSpanRight_159 rfl 160 rfl ?_
          refine gf_X9_178 C rfl rfl dX9_isSpanRight_160 163 rfl ?_
          refine j_iconst (v := nI 0) C dX9_isSpanRight_163 (by decide) 164 rfl ?_
          refine j_aload_n C dX9_isSpanRight_164 rfl 165 rfl ?_
          refine j_iload_n C dX9_isSpanRight_165 rfl 166 rfl ?_
          refine j_iconst (v := nI 4) C dX9_isSpanRight_166 (by decide) 167 rfl ?_
          refine n_iadd C dX9_isSpanRight_167 168 rfl ?_
          refine j_ci C (cs_X9_318 C (ct_X9_areLike (Λ := gl_mL) (R := gl_mR) (I := I3) (x := 56) (nx := 8) (p := 0) (y := 13) (ny := 336) (q := q + 4) (h - 1) (by omega) rfl (by decide) (by decide) rfl (by omega) (by decide)) rfl (by omega) (by omega) (by omega) rfl (Nat.le_of_ble_eq_true rfl) dX9_isSpanRight_168) 171 rfl ?_
          rintro _ _ ⟨rfl, rfl⟩
          rw [gl_lk_congr (f' := gl_top (gl_ls (gl_stp I s) (nn s) (nn s - b) b (gl_bls (fa s) (fa s) 0).length p)) (g' := fun t => I 13 (q + 4 + t)) 8 (fun t ht => by rw [Nat.zero_add, r3, gl_cpy_lt ht]) (fun t ht => by rw [q3.1 13 (by decide) (by decide)])]
          exact j_zret C hQ ⟨by rw [← htg], _, rfl, q3⟩ (by omega) (by omega) dX9_isSpanRight_171
        · exact absurd c_72 (by omega)
      | succ c ih =>
        intro j p I1 hj hm hs1 hi hf hu htg
        have hlen := gl_inc_len hi (by decide) (by omega)
        refine j_iload C dX9_isSpanRight_68 rfl 70 rfl ?_
        refine j_iload C dX9_isSpanRight_70 rfl 72 rfl ?_
        refine n_icmp_ge C 132 75 dX9_isSpanRight_72 (by decide) rfl (by omega) (by omega) (fun c_72 => ?_) (fun c_72 => ?_)
        · exact absurd c_72 (by omega)
        · refine j_aload_n C dX9_isSpanRight_75 rfl 76 rfl ?_
          refine j_aload_n C dX9_isSpanRight_76 rfl 77 rfl ?_
          refine gf_X9_39 C rfl rfl dX9_isSpanRight_77 80 rfl ?_
          refine j_bipush (v := nI 40) C dX9_isSpanRight_80 (by decide) 82 rfl ?_
          refine j_iload_n C dX9_isSpanRight_82 rfl 83 rfl ?_
          refine n_imul C dX9_isSpanRight_83 84 rfl ?_
          refine j_iload C dX9_isSpanRight_84 rfl 86 rfl ?_
          refine n_iadd C dX9_isSpanRight_86 87 rfl ?_
          refine j_iload C dX9_isSpanRight_87 rfl 89 rfl ?_
          refine n_isub C dX9_isSpanRight_89 (by omega) 90 rfl ?_
          rw [show 40 * s + (fa s + j) - fa s = 40 * s + j by omega]
          refine j_iald C rfl (by omega) (by decide) dX9_isSpanRight_90 91 rfl ?_
          rw [hf.1 10 (by decide) (by decide)]
          refine j_aload_n C dX9_isSpanRight_91 rfl 92 rfl ?_
          refine gf_X9_42 C rfl rfl dX9_isSpanRight_92 95 rfl ?_
          refine j_bipush (v := nI 40) C dX9_isSpanRight_95 (by decide) 97 rfl ?_
          refine j_iload_n C dX9_isSpanRight_97 rfl 98 rfl ?_
          refine n_imul C dX9_isSpanRight_98 99 rfl ?_
          refine j_iload C dX9_isSpanRight_99 rfl 101 rfl ?_
          refine n_iadd C dX9_isSpanRight_101 102 rfl ?_
          refine j_iload C dX9_isSpanRight_102 rfl 104 rfl ?_
          refine n_isub C dX9_isSpanRight_104 (by omega) 105 rfl ?_
          rw [show 40 * s + (fa s + j) - fa s = 40 * s + j by omega]
          refine j_lald C rfl (by omega) (by decide) dX9_isSpanRight_105 106 rfl ?_
          refine j_aload_n C dX9_isSpanRight_106 rfl 107 rfl ?_
          refine gf_X9_148 C rfl rfl dX9_isSpanRight_107 110 rfl ?_
          refine j_iconst (v := nI 0) C dX9_isSpanRight_110 (by decide) 111 rfl ?_
          refine j_cv C (cs_X9_196 C (ct_X9_entrySum (I := I1) (to := 46) (nt := 8) (at_ := 0) (h - 1) (by omega) rfl (by decide) (by decide) (by decide) (by decide)) rfl rfl (by omega) (by omega) (by omega) rfl (Nat.le_of_ble_eq_true rfl) dX9_isSpanRight_111) 114 rfl ?_
          rintro _ ⟨w, m, rfl⟩
          have f2 := (((gl_fq.rf (X := [39, 40, 46]) (Y := []) (I := I1)).wm (w := w) (m := m) (by decide) (by decide)).up (c := 46) (r := va_cpy (gl_entry (I 10 (40 * s + j)) (L 11 (40 * s + j))) (I1 46) 0 0 8) (by decide) (by decide))
          have m2 := gl_mp_fq hm f2 (by decide) (by decide)
          rw [← hs1]
          refine j_aload_n C dX9_isSpanRight_114 rfl 115 rfl ?_
          refine j_iload C dX9_isSpanRight_115 rfl 117 rfl ?_
          refine j_iconst (v := nI 1) C dX9_isSpanRight_117 (by decide) 118 rfl ?_
          refine j_aload_n C dX9_isSpanRight_118 rfl 119 rfl ?_
          refine gf_X9_148 C rfl rfl dX9_isSpanRight_119 122 rfl ?_
          refine j_iconst (v := nI 0) C dX9_isSpanRight_122 (by decide) 123 rfl ?_
          refine j_cv C (cs_X9_216 C (ct_X9_lay (p := p) (e := 0) (rw_ := 46) (nr := 8) (q_ := 0) (h - 1) (by omega) m2 (by omega) (by omega) rfl (by decide) (by decide) (by decide) (by decide) (by decide)) rfl rfl (by omega) (by omega) (by omega) rfl (Nat.le_of_ble_eq_true rfl) dX9_isSpanRight_123) 126 rfl ?_
          rintro _ ⟨I3, rfl, f3, m3⟩
          rw [hs1]
          refine n_iinc C dX9_isSpanRight_126 rfl (by rw [hnL]; decide) rfl 129 rfl ?_
          refine j_goto (tgt := 68) C dX9_isSpanRight_129 (by decide) ?_
          rw [gl_lay_congr (r' := gl_entry (I 10 (40 * s + j)) (L 11 (40 * s + j))) (fun t ht => by rw [Nat.zero_add, gl_up_eq, gl_cpy_lt ht])] at m3
          refine ih (j + 1) _ I3 (by omega) m3 (by rw [gl_sz_lay, hs1]; omega) (gl_inc_lay hi (Nat.mod_one _)) ((hf.tr (f2.mo (by decide) (by decide))).tr (f3.mo (by decide) (by decide))) (by rw [f3.2 63 (by decide), f2.2 63 (by decide), hu]) ?_
          rw [← htg, hs1]; rfl
    refine j_istore C dX9_isSpanRight_44 (Nat.le_of_ble_eq_true rfl) (by rw [hnL]; decide) rfl 46 rfl ?_
    refine j_aload_n C dX9_isSpanRight_46 rfl 47 rfl ?_
    refine j_iconst (v := nI 0) C dX9_isSpanRight_47 (by decide) 48 rfl ?_
    refine pf_X9_208 C rfl dX9_isSpanRight_48 51 rfl ?_
    refine j_aload_n C dX9_isSpanRight_51 rfl 52 rfl ?_
    refine j_iconst (v := nI 0) C dX9_isSpanRight_52 (by decide) 53 rfl ?_
    refine pf_X9_312 C rfl dX9_isSpanRight_53 56 rfl ?_
    refine j_aload_n C dX9_isSpanRight_56 rfl 57 rfl ?_
    refine j_iload_n C dX9_isSpanRight_57 rfl 58 rfl ?_
    refine j_iconst (v := nI 0) C dX9_isSpanRight_58 (by decide) 59 rfl ?_
    refine j_iload C dX9_isSpanRight_59 rfl 61 rfl ?_
    refine j_cv C (cs_X9_315 C (ct_X9_laySteps (I := (gl_u2 (gl_u2 I 0 49 (nI 0)) 0 63 (nI 0))) (p0 := []) (s := s) (a0 := 0) (b := (fa s)) (u0 := 0) (h - 1) (by omega) hs ⟨by rw [gl_u2_eq, gl_up_ne (show (49 : Nat) ≠ 63 by decide), gl_u2_eq, gl_up_eq]; rfl, trivial⟩ rfl trivial (by omega) (by omega) (by rw [gl_u2_eq, gl_up_eq]) (by omega)) rfl rfl (by omega) (by omega) (by omega) rfl (Nat.le_of_ble_eq_true rfl) dX9_isSpanRight_61) 64 rfl ?_
    rintro _ ⟨I1, rfl, f1, u1, m1⟩
    refine j_iload C dX9_isSpanRight_64 rfl 66 rfl ?_
    refine j_istore C dX9_isSpanRight_66 (Nat.le_of_ble_eq_true rfl) (by rw [hnL]; decide) rfl 68 rfl ?_
    have sz1 := gl_ls_inv (row := gl_stp I s) (b := fa s) (fa s) 0 0 [] (by omega) (Nat.zero_le _) rfl trivial
    rw [Nat.sub_zero] at m1 u1
    exact loop (b - fa s) 0 (gl_ls (gl_stp I s) (fa s) (fa s) 0 0 []) I1 (by omega) m1 sz1.1 sz1.2 (((gl_fq.rf.sc (by decide)).sc (by decide)).tr (f1.mo (by decide) (by decide))) (by rw [u1, Nat.zero_add]) rfl
  refine j_aload_n C dX9_isSpanRight_0 rfl 1 rfl ?_
  refine gf_X9_36 C rfl rfl dX9_isSpanRight_1 4 rfl ?_
  refine j_bipush (v := nI 8) C dX9_isSpanRight_4 (by decide) 6 rfl ?_
  refine j_iload_n C dX9_isSpanRight_6 rfl 7 rfl ?_
  refine n_imul C dX9_isSpanRight_7 8 rfl ?_
  refine j_iconst (v := nI 3) C dX9_isSpanRight_8 (by decide) 9 rfl ?_
  refine n_iadd C dX9_isSpanRight_9 10 rfl ?_
  refine j_iald C rfl (by omega) (by decide) dX9_isSpanRight_10 11 rfl ?_
  rw [k3]
  refine j_istore C dX9_isSpanRight_11 (Nat.le_of_ble_eq_true rfl) (by rw [hnL]; decide) rfl 13 rfl ?_
  refine j_aload_n C dX9_isSpanRight_13 rfl 14 rfl ?_
  refine gf_X9_36 C rfl rfl dX9_isSpanRight_14 17 rfl ?_
  refine j_bipush (v := nI 8) C dX9_isSpanRight_17 (by decide) 19 rfl ?_
  refine j_iload_n C dX9_isSpanRight_19 rfl 20 rfl ?_
  refine n_imul C dX9_isSpanRight_20 21 rfl ?_
  refine j_iald C rfl (by omega) (by decide) dX9_isSpanRight_21 22 rfl ?_
  rw [k0]
  refine j_iconst (v := nI 1) C dX9_isSpanRight_22 (by decide) 23 rfl ?_
  refine n_icmp_ne C 33 26 dX9_isSpanRight_23 (by decide) rfl (by omega) (by omega) (fun c_23 => ?_) (fun c_23 => ?_)
  · refine j_aload_n C dX9_isSpanRight_33 rfl 34 rfl ?_
    refine gf_X9_36 C rfl rfl dX9_isSpanRight_34 37 rfl ?_
    refine j_bipush (v := nI 8) C dX9_isSpanRight_37 (by decide) 39 rfl ?_
    refine j_iload_n C dX9_isSpanRight_39 rfl 40 rfl ?_
    refine n_imul C dX9_isSpanRight_40 41 rfl ?_
    refine j_iconst (v := nI 4) C dX9_isSpanRight_41 (by decide) 42 rfl ?_
    refine n_iadd C dX9_isSpanRight_42 43 rfl ?_
    refine j_iald C rfl (by omega) (by decide) dX9_isSpanRight_43 44 rfl ?_
    rw [k4]
    have k7 := k7 (by omega)
    exact main (sb s) (by omega) (by omega) (by omega) (by rw [gl_eb, if_neg c_23]) _ _
  · refine j_iload C dX9_isSpanRight_26 rfl 28 rfl ?_
    refine j_iconst (v := nI 1) C dX9_isSpanRight_28 (by decide) 29 rfl ?_
    refine n_iadd C dX9_isSpanRight_29 30 rfl ?_
    refine j_goto (tgt := 44) C dX9_isSpanRight_30 (by decide) ?_
    exact main (fa s + 1) (by omega) (k6 c_23) (by omega) (by rw [gl_eb, if_pos c_23]) _ _
set_option maxHeartbeats 4000000 in
set_option maxRecDepth 100000 in
theorem ct_X9_isGrownRight {l : Launch} {δ : gl_Del} {I : Nat → Nat → Int32} {L : Nat → Nat → Int64} {B : Nat → Nat → Bool} {kd sm nn fa sb : Nat → Nat} {s q q2_ : Nat} (h : Nat) (hh : 6 ≤ h) (P : gl_SI I kd sm nn fa sb) (hs : s < 16) (hq : q + 28 ≤ 336) (hq2 : q2_ + 28 ≤ 336) : gl_Ct l δ yX9_isGrownRight (ws_ yX9_isGrownRight cX9_isGrownRight 7 ((some FieldType.boolean))) (gl_rm h 0 0) 0 0 [.ref 0, .int (nI s), .ref 13, .int (nI q), .ref 13, .int (nI q2_)] (gl_mL, I, L, B, gl_mR) (gl_Qi fun r S => r = b2i (gl_lk (gl_top (gl_grP (gl_stp I s) (fa s))) (fun t => I 13 (q + 4 + t)) 8 && gl_lk (gl_top (gl_grQ (gl_stp I s) (fa s) (nn s))) (fun t => I 13 (q2_ + 4 + t)) 8) ∧ ∃ I', S = (gl_mL, I', L, B, gl_mR) ∧ gl_fq [39, 40, 42, 43, 44, 45, 46, 55, 56] [49, 63] I I') := by
  refine gl_of (by decide) (Nat.le_of_ble_eq_true rfl) rfl ?_
  intro κ C hQ hlκ hδκ hnL hini
  change gl_Cx κ RX9 _ _ _ at C
  obtain ⟨k0, kb, k1, k1b, k2, k2b, k3, k4, k4b, k5, k6, k7⟩ := P s hs
  have lb1 : (gl_bls (fa s) (fa s) 0).length ≤ 19 := gl_bls_len (by omega) (by omega)
  have lb1' : (gl_bls (fa s) (fa s - 0) 0).length ≤ 19 := gl_bls_len (by omega) (by omega)
  have lb2 : (gl_bls (nn s) (nn s - fa s) (fa s)).length ≤ 19 := gl_bls_len (by omega) k5
  refine j_aload_n C dX9_isGrownRight_0 rfl 1 rfl ?_
  refine gf_X9_36 C rfl rfl dX9_isGrownRight_1 4 rfl ?_
  refine j_bipush (v := nI 8) C dX9_isGrownRight_4 (by decide) 6 rfl ?_
  refine j_iload_n C dX9_isGrownRight_6 rfl 7 rfl ?_
  refine n_imul C dX9_isGrownRight_7 8 rfl ?_
  refine j_iconst (v := nI 3) C dX9_isGrownRight_8 (by decide) 9 rfl ?_
  refine n_iadd C dX9_isGrownRight_9 10 rfl ?_
  refine j_iald C rfl (by omega) (by decide) dX9_isGrownRight_10 11 rfl ?_
  rw [k3]
  refine j_istore C dX9_isGrownRight_11 (Nat.le_of_ble_eq_true rfl) (by rw [hnL]; decide) rfl 13 rfl ?_
  refine j_aload_n C dX9_isGrownRight_13 rfl 14 rfl ?_
  refine j_iconst (v := nI 0) C dX9_isGrownRight_14 (by decide) 15 rfl ?_
  refine pf_X9_208 C rfl dX9_isGrownRight_15 18 rfl ?_
  refine j_aload_n C dX9_isGrownRight_18 rfl 19 rfl ?_
  refine j_iconst (v := nI 0) C dX9_isGrownRight_19 (by decide) 20 rfl ?_
  refine pf_X9_312 C rfl dX9_isGrownRight_20 23 rfl ?_
  refine j_aload_n C dX9_isGrownRight_23 rfl 24 rfl ?_
  refine j_iload_n C dX9_isGrownRight_24 rfl 25 rfl ?_
  refine j_iconst (v := nI 0) C dX9_isGrownRight_25 (by decide) 26 rfl ?_
  refine j_iload C dX9_isGrownRight_26 rfl 28 rfl ?_
  refine j_cv C (cs_X9_315 C (ct_X9_laySteps (I := (gl_u2 (gl_u2 I 0 49 (nI 0)) 0 63 (nI 0))) (p0 := []) (s := s) (a0 := 0) (b := (fa s)) (u0 := 0) (h - 1) (by omega) hs ⟨by rw [gl_u2_eq, gl_up_ne (show (49 : Nat) ≠ 63 by decide), gl_u2_eq, gl_up_eq]; rfl, trivial⟩ rfl trivial (by omega) (by omega) (by rw [gl_u2_eq, gl_up_eq]) (by omega)) rfl rfl (by omega) (by omega) (by omega) rfl (Nat.le_of_ble_eq_true rfl) dX9_isGrownRight_28) 31 rfl ?_
  rintro _ ⟨I1, rfl, f1, u1, m1⟩
  have sz1 := gl_ls_inv (row := gl_stp I s) (b := fa s) (fa s) 0 0 [] (by omega) (Nat.zero_le _) rfl trivial
  rw [Nat.sub_zero] at m1 u1
  change gl_mp I1 (gl_grP (gl_stp I s) (fa s)) at m1
  change gl_sz (gl_grP (gl_stp I s) (fa s)) = _ ∧ gl_inc 0 (gl_grP (gl_stp I s) (fa s)) at sz1
  have ln1 := gl_inc_len sz1.2 (by decide) (by omega)
  have q1 : gl_fq [39, 40, 42, 43, 44, 45, 46, 55, 56] [49, 63] I I1 := ((gl_fq.rf.sc (by decide)).sc (by decide)).tr (f1.mo (by decide) (by decide))
  refine j_aload_n C dX9_isGrownRight_31 rfl 32 rfl ?_
  refine j_aload_n C dX9_isGrownRight_32 rfl 33 rfl ?_
  refine gf_X9_178 C rfl rfl dX9_isGrownRight_33 36 rfl ?_
  refine j_iconst (v := nI 0) C dX9_isGrownRight_36 (by decide) 37 rfl ?_
  refine j_cv C (cs_X9_258 C (ct_X9_top (I := I1) (p := (gl_grP (gl_stp I s) (fa s))) (to := 56) (nt := 8) (at_ := 0) (h - 1) (by omega) m1 (by omega) rfl (by decide) (by decide) (by decide) (by decide) (by decide) (by decide) (by decide)) rfl rfl (by omega) (by omega) (by omega) rfl (Nat.le_of_ble_eq_true rfl) dX9_isGrownRight_37) 40 rfl ?_
  rintro _ ⟨I2, rfl, f2, r2⟩
  have q2 : gl_fq [39, 40, 42, 43, 44, 45, 46, 55, 56] [49, 63] I I2 := q1.tr (f2.mo (by decide) (by decide))
  have m2 := gl_mp_fq m1 f2 (by decide) (by decide)
  refine j_aload_n C dX9_isGrownRight_40 rfl 41 rfl ?_
  refine gf_X9_178 C rfl rfl dX9_isGrownRight_41 44 rfl ?_
  refine j_iconst (v := nI 0) C dX9_isGrownRight_44 (by decide) 45 rfl ?_
  refine j_aload_n C dX9_isGrownRight_45 rfl 46 rfl ?_
  refine j_iload_n C dX9_isGrownRight_46 rfl 47 rfl ?_
  refine j_iconst (v := nI 4) C dX9_isGrownRight_47 (by decide) 48 rfl ?_
  refine n_iadd C dX9_isGrownRight_48 49 rfl ?_
  refine j_ci C (cs_X9_318 C (ct_X9_areLike (Λ := gl_mL) (R := gl_mR) (I := I2) (x := 56) (nx := 8) (p := 0) (y := 13) (ny := 336) (q := q + 4) (h - 1) (by omega) rfl (by decide) (by decide) rfl (by omega) (by decide)) rfl (by omega) (by omega) (by omega) rfl (Nat.le_of_ble_eq_true rfl) dX9_isGrownRight_49) 52 rfl ?_
  rintro _ _ ⟨rfl, rfl⟩
  rw [gl_lk_congr (f' := gl_top (gl_grP (gl_stp I s) (fa s))) (g' := fun t => I 13 (q + 4 + t)) 8 (fun t ht => by rw [Nat.zero_add, r2, gl_cpy_lt ht]) (fun t ht => by rw [q2.1 13 (by decide) (by decide)])]
  refine b_if_ne C 57 55 dX9_isGrownRight_52 (by decide) rfl (fun c_52 => ?_) (fun c_52 => ?_)
  · refine j_aload_n C dX9_isGrownRight_57 rfl 58 rfl ?_
    refine j_iload_n C dX9_isGrownRight_58 rfl 59 rfl ?_
    refine j_iload C dX9_isGrownRight_59 rfl 61 rfl ?_
    refine j_aload_n C dX9_isGrownRight_61 rfl 62 rfl ?_
    refine gf_X9_36 C rfl rfl dX9_isGrownRight_62 65 rfl ?_
    refine j_bipush (v := nI 8) C dX9_isGrownRight_65 (by decide) 67 rfl ?_
    refine j_iload_n C dX9_isGrownRight_67 rfl 68 rfl ?_
    refine n_imul C dX9_isGrownRight_68 69 rfl ?_
    refine j_iconst (v := nI 2) C dX9_isGrownRight_69 (by decide) 70 rfl ?_
    refine n_iadd C dX9_isGrownRight_70 71 rfl ?_
    refine j_iald C rfl (by omega) (by decide) dX9_isGrownRight_71 72 rfl ?_
    rw [q2.1 9 (by decide) (by decide), k2]
    refine j_cv C (cs_X9_315 C (ct_X9_laySteps (I := I2) (p0 := (gl_grP (gl_stp I s) (fa s))) (s := s) (a0 := (fa s)) (b := (nn s)) (u0 := (gl_bls (fa s) (fa s) 0).length) (h - 1) (by omega) hs m2 sz1.1 sz1.2 (by omega) (by omega) (by rw [f2.2 63 (by decide), u1, Nat.zero_add]) (by omega)) rfl rfl (by omega) (by omega) (by omega) rfl (Nat.le_of_ble_eq_true rfl) dX9_isGrownRight_72) 75 rfl ?_
    rintro _ ⟨I3, rfl, f3, u3, m3⟩
    rw [show gl_stp I2 s = gl_stp I s by unfold gl_stp; rw [q2.1 12 (by decide) (by decide)]] at m3
    have sz3 := gl_ls_inv (row := gl_stp I s) (b := nn s) (nn s - fa s) (fa s) (gl_bls (fa s) (fa s) 0).length (gl_grP (gl_stp I s) (fa s)) (Nat.le_refl _) (by omega) sz1.1 sz1.2
    have ln3 := gl_inc_len sz3.2 (by decide) (by omega)
    have q3 := q2.tr (f3.mo (by decide) (by decide))
    refine j_aload_n C dX9_isGrownRight_75 rfl 76 rfl ?_
    refine j_aload_n C dX9_isGrownRight_76 rfl 77 rfl ?_
    refine gf_X9_178 C rfl rfl dX9_isGrownRight_77 80 rfl ?_
    refine j_iconst (v := nI 0) C dX9_isGrownRight_80 (by decide) 81 rfl ?_
    refine j_cv C (cs_X9_258 C (ct_X9_top (I := I3) (p := (gl_ls (gl_stp I s) (nn s) (nn s - fa s) (fa s) (gl_bls (fa s) (fa s) 0).length (gl_grP (gl_stp I s) (fa s)))) (to := 56) (nt := 8) (at_ := 0) (h - 1) (by omega) m3 (by omega) rfl (by decide) (by decide) (by decide) (by decide) (by decide) (by decide) (by decide)) rfl rfl (by omega) (by omega) (by omega) rfl (Nat.le_of_ble_eq_true rfl) dX9_isGrownRight_81) 84 rfl ?_
    rintro _ ⟨I4, rfl, f4, r4⟩
    have q4 : gl_fq [39, 40, 42, 43, 44, 45, 46, 55, 56] [49, 63] I I4 := q3.tr (f4.mo (by decide) (by decide))
    refine j_aload_n C dX9_isGrownRight_84 rfl 85 rfl ?_
    refine gf_X9_178 C rfl rfl dX9_isGrownRight_85 88 rfl ?_
    refine j_iconst (v := nI 0) C dX9_isGrownRight_88 (by decide) 89 rfl ?_
    refine j_aload C dX9_isGrownRight_89 rfl 91 rfl ?_
    refine j_iload C dX9_isGrownRight_91 rfl 93 rfl ?_
    refine j_iconst (v := nI 4) C dX9_isGrownRight_93 (by decide) 94 rfl ?_
    refine n_iadd C dX9_isGrownRight_94 95 rfl ?_
    refine j_ci C (cs_X9_318 C (ct_X9_areLike (Λ := gl_mL) (R := gl_mR) (I := I4) (x := 56) (nx := 8) (p := 0) (y := 13) (ny := 336) (q := q2_ + 4) (h - 1) (by omega) rfl (by decide) (by decide) rfl (by omega) (by decide)) rfl (by omega) (by omega) (by omega) rfl (Nat.le_of_ble_eq_true rfl) dX9_isGrownRight_95) 98 rfl ?_
    rintro _ _ ⟨rfl, rfl⟩
    rw [gl_lk_congr (f' := gl_top (gl_grQ (gl_stp I s) (fa s) (nn s))) (g' := fun t => I 13 (q2_ + 4 + t)) 8 (fun t ht => by rw [Nat.zero_add, r4, gl_cpy_lt ht]; rfl) (fun t ht => by rw [q4.1 13 (by decide) (by decide)])]
    exact j_zret C hQ ⟨by rw [c_52]; rfl, _, rfl, q4⟩ (by omega) (by omega) dX9_isGrownRight_98
  · refine j_iconst (v := b2i false) C dX9_isGrownRight_55 (by decide) 56 rfl ?_
    exact j_zret C hQ ⟨by rw [c_52]; rfl, _, rfl, q2⟩ (by omega) (by omega) dX9_isGrownRight_56
