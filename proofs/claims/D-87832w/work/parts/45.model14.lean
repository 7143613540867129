/-! MODULE Model, slots: within, grown, span, proof, forge (by gen45.py) -/
set_option maxRecDepth 100000
/-- a slot is filled: kind, count, two places, steps; scratch moves -/
def gl_sP (X Y : List Nat) (I I' : Nat → Nat → Int32) (s : Nat) (kd n a b : Int32) (rs : List (Nat → Int32)) : Prop := gl_fq X Y I I' ∧ I' 9 = va_up (gl_bg (I 9) s kd n a b) (8 * s + 1) (nI rs.length) ∧ I' 12 = gl_wrs (8 * (256 * s)) rs 0 (I 12)
theorem gl_sP_2 {I Ic I2 I3 : Nat → Nat → Int32} {s : Nat} {kd n a b : Int32} {r1 r2 : List (Nat → Int32)} (hc : gl_fq [9, 10, 12, 39, 40, 41, 46] [] I Ic) (h9 : Ic 9 = gl_bg (I 9) s kd n a b) (h12 : Ic 12 = I 12)
    (f2 : gl_fq [9, 12, 39, 40, 41, 46] [] Ic I2) (a2 : I2 9 = va_up (Ic 9) (8 * s + 1) (nI (0 + r1.length))) (b2 : I2 12 = gl_wrs (8 * (256 * s)) r1 0 (Ic 12))
    (f3 : gl_fq [9, 12, 39, 40, 41, 46] [] I2 I3) (a3 : I3 9 = va_up (I2 9) (8 * s + 1) (nI (0 + r1.length + r2.length))) (b3 : I3 12 = gl_wrs (8 * (256 * s)) r2 (0 + r1.length) (I2 12)) : gl_sP [9, 10, 12, 39, 40, 41, 46] [] I I3 s kd n a b (r1 ++ r2) := by
  refine ⟨(hc.tr (f2.mo (by decide) (by decide))).tr (f3.mo (by decide) (by decide)), ?_, ?_⟩
  · rw [a3, a2, h9, gl_up_up, List.length_append, Nat.zero_add]
  · rw [b3, b2, h12, gl_wrs_app]
/-- within -/
def gl_wok (I : Nat → Nat → Int32) (B : Nat → Nat → Bool) (lm : Nat) (x y n i : Int32) : Bool := gl_in x 16 && (gl_ic I lm y n && (gl_in i n.toNatClampNeg && !B 4 (400 * y.toNatClampNeg + i.toNatClampNeg)))
def gl_lrws (I : Nat → Nat → Int32) (L : Nat → Nat → Int64) (lg a b : Nat) : List (Nat → Int32) := gl_rws (fun i => I 2 (400 * lg + i)) (fun i => L 3 (400 * lg + i)) a b
def gl_within (I : Nat → Nat → Int32) (L : Nat → Nat → Int64) (B : Nat → Nat → Bool) (lm : Nat) (x y n i r : Int32) (S : gl_Sto) : Prop := if gl_wok I B lm x y n i = true then (r = nI (gl_lrws I L y.toNatClampNeg 0 i.toNatClampNeg ++ gl_lrws I L y.toNatClampNeg (i.toNatClampNeg + 1) n.toNatClampNeg).length ∧ ∃ I', S = (gl_mL, I', gl_u2 L 11 (40 * x.toNatClampNeg) (L 3 (400 * y.toNatClampNeg + i.toNatClampNeg)), B, gl_mR) ∧ gl_sP [9, 10, 12, 39, 40, 41, 46] [] I I' x.toNatClampNeg (nI 1) n i (nI 0) (gl_lrws I L y.toNatClampNeg 0 i.toNatClampNeg ++ gl_lrws I L y.toNatClampNeg (i.toNatClampNeg + 1) n.toNatClampNeg) ∧ I' 10 = va_up (I 10) (40 * x.toNatClampNeg) (I 2 (400 * y.toNatClampNeg + i.toNatClampNeg))) else (r = -1 ∧ S = (gl_mL, I, L, B, gl_mR))
def gl_gok (I : Nat → Nat → Int32) (lm : Nat) (x y m n : Int32) : Bool := gl_in x 16 && (gl_ic I lm y n && gl_in m (n.toNatClampNeg + 1))
def gl_grown (I : Nat → Nat → Int32) (L : Nat → Nat → Int64) (B : Nat → Nat → Bool) (lm : Nat) (x y m n r : Int32) (S : gl_Sto) : Prop := if gl_gok I lm x y m n = true then (r = nI (gl_lrws I L y.toNatClampNeg 0 m.toNatClampNeg ++ gl_lrws I L y.toNatClampNeg m.toNatClampNeg n.toNatClampNeg).length ∧ ∃ I', S = (gl_mL, I', L, B, gl_mR) ∧ gl_sP [9, 10, 12, 39, 40, 41, 46] [] I I' x.toNatClampNeg (nI 2) n m (nI 0) (gl_lrws I L y.toNatClampNeg 0 m.toNatClampNeg ++ gl_lrws I L y.toNatClampNeg m.toNatClampNeg n.toNatClampNeg) ∧ I' 10 = I 10) else (r = -1 ∧ S = (gl_mL, I, L, B, gl_mR))
set_option maxHeartbeats 4000000 in
set_option maxRecDepth 100000 in
theorem ct_X9_within {l : Launch} {δ : gl_Del} {I : Nat → Nat → Int32} {L : Nat → Nat → Int64} {B : Nat → Nat → Bool} {lm : Nat} {mn hd ld : Nat → Nat} {sn : Nat → Nat → Nat} {x y n i : Int32} (h : Nat) (hh : 15 ≤ h) (H : gl_LI I lm mn hd ld sn) : gl_Ct l δ yX9_within (ws_ yX9_within cX9_within 5 ((some FieldType.int))) (gl_rm h 0 0) 0 0 [.ref 0, .int x, .int y, .int n, .int i] (gl_mL, I, L, B, gl_mR) (gl_Qi fun r S => gl_within I L B lm x y n i r S) := by
  refine gl_of (by decide) (Nat.le_of_ble_eq_true rfl) rfl ?_
  intro κ C hQ hlκ hδκ hnL hini
  change gl_Cx κ RX9 _ _ _ at C
  have hlm6 : lm ≤ 6 := H.2.1
  refine j_aload_n C dX9_within_0 rfl 1 rfl ?_
  refine j_iload_n C dX9_within_1 rfl 2 rfl ?_
  refine j_ci C (cs_X9_292 C (ct_X9_isSlot (h - 1) (by omega)) rfl rfl (by omega) (by omega) (by omega) rfl (Nat.le_of_ble_eq_true rfl) dX9_within_2) 5 rfl ?_
  rintro _ _ ⟨rfl, rfl⟩
  refine b_if_eq C 44 8 dX9_within_5 (by decide) rfl (fun c_5 => ?_) (fun c_5 => ?_)
  · refine j_iconst (v := -1) C dX9_within_44 (by decide) 45 rfl ?_
    exact j_iret C hQ (by rw [gl_within, if_neg (by rw [gl_wok, c_5]; simp)]; exact ⟨rfl, rfl⟩) (by omega) (by omega) dX9_within_45
  · obtain ⟨s, hs, rfl⟩ := (gl_in_iff (by decide)).mp c_5
    have hcs : (nI s).toNatClampNeg = s := nI_clamp (by omega)
    refine j_aload_n C dX9_within_8 rfl 9 rfl ?_
    refine j_iload_n C dX9_within_9 rfl 10 rfl ?_
    refine j_iload_n C dX9_within_10 rfl 11 rfl ?_
    refine j_ci C (cs_X9_277 C (ct_X9_isCount (h - 1) (by omega) H.1 H.2.1) rfl rfl (by omega) (by omega) (by omega) rfl (Nat.le_of_ble_eq_true rfl) dX9_within_11) 14 rfl ?_
    rintro _ _ ⟨rfl, rfl⟩
    refine b_if_eq C 44 17 dX9_within_14 (by decide) rfl (fun c_14 => ?_) (fun c_14 => ?_)
    · refine j_iconst (v := -1) C dX9_within_44 (by decide) 45 rfl ?_
      exact j_iret C hQ (by rw [gl_within, if_neg (by rw [gl_wok, c_5, c_14]; simp)]; exact ⟨rfl, rfl⟩) (by omega) (by omega) dX9_within_45
    · obtain ⟨lg, m, hlg, hm, rfl, rfl⟩ := (gl_ic_iff H).mp c_14
      have hk := H.2.2 lg hlg
      have hcl : (nI lg).toNatClampNeg = lg := nI_clamp (by omega)
      have hcm : (nI m).toNatClampNeg = m := nI_clamp (by omega)
      refine j_iload C dX9_within_17 rfl 19 rfl ?_
      refine j_if_lt C 44 22 dX9_within_19 (by decide) rfl (fun c_19 => ?_) (fun c_19 => ?_)
      · refine j_iconst (v := -1) C dX9_within_44 (by decide) 45 rfl ?_
        exact j_iret C hQ (by rw [gl_within, if_neg (by rw [gl_wok, c_5, c_14, gl_in_f1 c_19]; simp)]; exact ⟨rfl, rfl⟩) (by omega) (by omega) dX9_within_45
      · obtain ⟨j, hj, rfl⟩ := nI_of c_19
        have hcj : (nI j).toNatClampNeg = j := nI_clamp hj
        refine j_iload C dX9_within_22 rfl 24 rfl ?_
        refine j_iload_n C dX9_within_24 rfl 25 rfl ?_
        refine n_icmp_ge C 44 28 dX9_within_25 (by decide) rfl hj (by omega) (fun c_25 => ?_) (fun c_25 => ?_)
        · refine j_iconst (v := -1) C dX9_within_44 (by decide) 45 rfl ?_
          exact j_iret C hQ (by rw [gl_within, if_neg (by rw [gl_wok, c_5, c_14, hcm, gl_in_nI hj (by omega), decide_eq_false (by omega)]; simp)]; exact ⟨rfl, rfl⟩) (by omega) (by omega) dX9_within_45
        · refine j_aload_n C dX9_within_28 rfl 29 rfl ?_
          refine gf_X9_20 C rfl rfl dX9_within_29 32 rfl ?_
          refine j_sipush (v := nI 400) C dX9_within_32 (by decide) 35 rfl ?_
          refine j_iload_n C dX9_within_35 rfl 36 rfl ?_
          refine n_imul C dX9_within_36 37 rfl ?_
          refine j_iload C dX9_within_37 rfl 39 rfl ?_
          refine n_iadd C dX9_within_39 40 rfl ?_
          refine j_zald C rfl (by omega) (by decide) dX9_within_40 41 rfl ?_
          refine b_if_eq C 46 44 dX9_within_41 (by decide) rfl (fun c_41 => ?_) (fun c_41 => ?_)
          · refine j_aload_n C dX9_within_46 rfl 47 rfl ?_
            refine j_iload_n C dX9_within_47 rfl 48 rfl ?_
            refine j_iconst (v := nI 1) C dX9_within_48 (by decide) 49 rfl ?_
            refine j_iload_n C dX9_within_49 rfl 50 rfl ?_
            refine j_iload C dX9_within_50 rfl 52 rfl ?_
            refine j_iconst (v := nI 0) C dX9_within_52 (by decide) 53 rfl ?_
            refine j_cv C (cs_X9_295 C (ct_X9_begin (h - 1) (by omega) hs) rfl rfl (by omega) (by omega) (by omega) rfl (Nat.le_of_ble_eq_true rfl) dX9_within_53) 56 rfl ?_
            rintro _ rfl
            refine j_aload_n C dX9_within_56 rfl 57 rfl ?_
            refine gf_X9_39 C rfl rfl dX9_within_57 60 rfl ?_
            refine j_bipush (v := nI 40) C dX9_within_60 (by decide) 62 rfl ?_
            refine j_iload_n C dX9_within_62 rfl 63 rfl ?_
            refine n_imul C dX9_within_63 64 rfl ?_
            refine j_aload_n C dX9_within_64 rfl 65 rfl ?_
            refine gf_X9_13 C rfl rfl dX9_within_65 68 rfl ?_
            refine j_sipush (v := nI 400) C dX9_within_68 (by decide) 71 rfl ?_
            refine j_iload_n C dX9_within_71 rfl 72 rfl ?_
            refine n_imul C dX9_within_72 73 rfl ?_
            refine j_iload C dX9_within_73 rfl 75 rfl ?_
            refine n_iadd C dX9_within_75 76 rfl ?_
            refine j_iald C rfl (by omega) (by decide) dX9_within_76 77 rfl ?_
            rw [gl_up_ne (show (2 : Nat) ≠ 9 by decide)]
            refine j_iast C rfl (by omega) (by decide) dX9_within_77 78 rfl ?_
            refine j_aload_n C dX9_within_78 rfl 79 rfl ?_
            refine gf_X9_42 C rfl rfl dX9_within_79 82 rfl ?_
            refine j_bipush (v := nI 40) C dX9_within_82 (by decide) 84 rfl ?_
            refine j_iload_n C dX9_within_84 rfl 85 rfl ?_
            refine n_imul C dX9_within_85 86 rfl ?_
            refine j_aload_n C dX9_within_86 rfl 87 rfl ?_
            refine gf_X9_16 C rfl rfl dX9_within_87 90 rfl ?_
            refine j_sipush (v := nI 400) C dX9_within_90 (by decide) 93 rfl ?_
            refine j_iload_n C dX9_within_93 rfl 94 rfl ?_
            refine n_imul C dX9_within_94 95 rfl ?_
            refine j_iload C dX9_within_95 rfl 97 rfl ?_
            refine n_iadd C dX9_within_97 98 rfl ?_
            refine j_lald C rfl (by omega) (by decide) dX9_within_98 99 rfl ?_
            refine j_last C rfl (by omega) (by decide) dX9_within_99 100 rfl ?_
            refine j_aload_n C dX9_within_100 rfl 101 rfl ?_
            refine j_iload_n C dX9_within_101 rfl 102 rfl ?_
            refine j_iload_n C dX9_within_102 rfl 103 rfl ?_
            refine j_iconst (v := nI 0) C dX9_within_103 (by decide) 104 rfl ?_
            refine j_iload C dX9_within_104 rfl 106 rfl ?_
            refine j_cv C (cs_X9_299 C (ct_X9_stepLog (I := gl_u2 (va_up I 9 (gl_bg (I 9) s (nI 1) (nI m) (nI j) (nI 0))) 10 (40 * s) (I 2 (400 * lg + j))) (s := s) (lg := lg) (a0 := 0) (b := j) (m := 0) (h - 1) (by omega) hs (by omega) (by omega) (by omega) (by rw [gl_u2_ne (show (9 : Nat) ≠ 10 by decide), gl_up_eq, gl_bg_1]) (by omega)) rfl rfl (by omega) (by omega) (by omega) rfl (Nat.le_of_ble_eq_true rfl) dX9_within_106) 109 rfl ?_
            rintro _ ⟨I2, rfl, f2, a2, b2⟩
            rw [gl_u2_ne (show (2 : Nat) ≠ 10 by decide), gl_up_ne (show (2 : Nat) ≠ 9 by decide), gl_u2_ne (show (3 : Nat) ≠ 11 by decide)] at a2 b2
            have g2 : I2 2 = I 2 := by rw [f2.1 2 (by decide) (by decide), gl_u2_ne (show (2 : Nat) ≠ 10 by decide), gl_up_ne (show (2 : Nat) ≠ 9 by decide)]
            have l19 := gl_rws_len (K := fun i => I 2 (400 * lg + i)) (V := fun i => L 3 (400 * lg + i)) (a := 0) (b := j) (by omega) (Nat.zero_le _)
            refine j_aload_n C dX9_within_109 rfl 110 rfl ?_
            refine j_iload_n C dX9_within_110 rfl 111 rfl ?_
            refine j_iload_n C dX9_within_111 rfl 112 rfl ?_
            refine j_iload C dX9_within_112 rfl 114 rfl ?_
            refine j_iconst (v := nI 1) C dX9_within_114 (by decide) 115 rfl ?_
            refine n_iadd C dX9_within_115 116 rfl ?_
            refine j_iload_n C dX9_within_116 rfl 117 rfl ?_
            refine j_cv C (cs_X9_299 C (ct_X9_stepLog (I := I2) (s := s) (lg := lg) (a0 := j + 1) (b := m) (m := 0 + (gl_rws (fun i => I 2 (400 * lg + i)) (fun i => L 3 (400 * lg + i)) 0 j).length) (h - 1) (by omega) hs (by omega) (by omega) (by omega) (by rw [a2, gl_up_eq]) (by omega)) rfl rfl (by omega) (by omega) (by omega) rfl (Nat.le_of_ble_eq_true rfl) dX9_within_117) 120 rfl ?_
            rintro _ ⟨I3, rfl, f3, a3, b3⟩
            rw [g2, gl_u2_ne (show (3 : Nat) ≠ 11 by decide)] at a3 b3
            have sp := gl_sP_2 (I := I) ((gl_fq.rf.up (by decide) (by decide)).u2 (by decide) (by decide)) (by rw [gl_u2_ne (show (9 : Nat) ≠ 10 by decide), gl_up_eq]) (by rw [gl_u2_ne (show (12 : Nat) ≠ 10 by decide), gl_up_ne (show (12 : Nat) ≠ 9 by decide)]) f2 a2 b2 f3 a3 b3
            refine j_aload_n C dX9_within_120 rfl 121 rfl ?_
            refine gf_X9_36 C rfl rfl dX9_within_121 124 rfl ?_
            refine j_bipush (v := nI 8) C dX9_within_124 (by decide) 126 rfl ?_
            refine j_iload_n C dX9_within_126 rfl 127 rfl ?_
            refine n_imul C dX9_within_127 128 rfl ?_
            refine j_iconst (v := nI 1) C dX9_within_128 (by decide) 129 rfl ?_
            refine n_iadd C dX9_within_129 130 rfl ?_
            refine j_iald C rfl (by omega) (by decide) dX9_within_130 131 rfl ?_
            rw [sp.2.1, gl_up_eq]
            exact j_iret C hQ (by rw [gl_within, if_pos (by rw [gl_wok, c_5, c_14, hcm, hcl, hcj, gl_in_nI hj (by omega), decide_eq_true c_25, c_41]; rfl), hcs, hcl, hcj, hcm]; exact ⟨rfl, _, rfl, sp, by rw [f3.1 10 (by decide) (by decide), f2.1 10 (by decide) (by decide), gl_u2_eq, gl_up_ne (show (10 : Nat) ≠ 9 by decide)]⟩) (by omega) (by omega) dX9_within_131
          · refine j_iconst (v := -1) C dX9_within_44 (by decide) 45 rfl ?_
            exact j_iret C hQ (by rw [gl_within, if_neg (by rw [gl_wok, c_5, c_14, hcl, hcj, c_41]; simp)]; exact ⟨rfl, rfl⟩) (by omega) (by omega) dX9_within_45
set_option maxHeartbeats 4000000 in
set_option maxRecDepth 100000 in
theorem ct_X9_grown {l : Launch} {δ : gl_Del} {I : Nat → Nat → Int32} {L : Nat → Nat → Int64} {B : Nat → Nat → Bool} {lm : Nat} {mn hd ld : Nat → Nat} {sn : Nat → Nat → Nat} {x y m0 n : Int32} (h : Nat) (hh : 15 ≤ h) (H : gl_LI I lm mn hd ld sn) : gl_Ct l δ yX9_grown (ws_ yX9_grown cX9_grown 5 ((some FieldType.int))) (gl_rm h 0 0) 0 0 [.ref 0, .int x, .int y, .int m0, .int n] (gl_mL, I, L, B, gl_mR) (gl_Qi fun r S => gl_grown I L B lm x y m0 n r S) := by
  refine gl_of (by decide) (Nat.le_of_ble_eq_true rfl) rfl ?_
  intro κ C hQ hlκ hδκ hnL hini
  change gl_Cx κ RX9 _ _ _ at C
  have hlm6 : lm ≤ 6 := H.2.1
  refine j_aload_n C dX9_grown_0 rfl 1 rfl ?_
  refine j_iload_n C dX9_grown_1 rfl 2 rfl ?_
  refine j_ci C (cs_X9_292 C (ct_X9_isSlot (h - 1) (by omega)) rfl rfl (by omega) (by omega) (by omega) rfl (Nat.le_of_ble_eq_true rfl) dX9_grown_2) 5 rfl ?_
  rintro _ _ ⟨rfl, rfl⟩
  refine b_if_eq C 28 8 dX9_grown_5 (by decide) rfl (fun c_5 => ?_) (fun c_5 => ?_)
  · refine j_iconst (v := -1) C dX9_grown_28 (by decide) 29 rfl ?_
    exact j_iret C hQ (by rw [gl_grown, if_neg (by rw [gl_gok, c_5]; simp)]; exact ⟨rfl, rfl⟩) (by omega) (by omega) dX9_grown_29
  · obtain ⟨s, hs, rfl⟩ := (gl_in_iff (by decide)).mp c_5
    have hcs : (nI s).toNatClampNeg = s := nI_clamp (by omega)
    refine j_aload_n C dX9_grown_8 rfl 9 rfl ?_
    refine j_iload_n C dX9_grown_9 rfl 10 rfl ?_
    refine j_iload C dX9_grown_10 rfl 12 rfl ?_
    refine j_ci C (cs_X9_277 C (ct_X9_isCount (h - 1) (by omega) H.1 H.2.1) rfl rfl (by omega) (by omega) (by omega) rfl (Nat.le_of_ble_eq_true rfl) dX9_grown_12) 15 rfl ?_
    rintro _ _ ⟨rfl, rfl⟩
    refine b_if_eq C 28 18 dX9_grown_15 (by decide) rfl (fun c_15 => ?_) (fun c_15 => ?_)
    · refine j_iconst (v := -1) C dX9_grown_28 (by decide) 29 rfl ?_
      exact j_iret C hQ (by rw [gl_grown, if_neg (by rw [gl_gok, c_5, c_15]; simp)]; exact ⟨rfl, rfl⟩) (by omega) (by omega) dX9_grown_29
    · obtain ⟨lg, m, hlg, hm, rfl, rfl⟩ := (gl_ic_iff H).mp c_15
      have hk := H.2.2 lg hlg
      have hcl : (nI lg).toNatClampNeg = lg := nI_clamp (by omega)
      have hcm : (nI m).toNatClampNeg = m := nI_clamp (by omega)
      refine j_iload_n C dX9_grown_18 rfl 19 rfl ?_
      refine j_if_lt C 28 22 dX9_grown_19 (by decide) rfl (fun c_19 => ?_) (fun c_19 => ?_)
      · refine j_iconst (v := -1) C dX9_grown_28 (by decide) 29 rfl ?_
        exact j_iret C hQ (by rw [gl_grown, if_neg (by rw [gl_gok, c_5, c_15, gl_in_f1 c_19]; simp)]; exact ⟨rfl, rfl⟩) (by omega) (by omega) dX9_grown_29
      · obtain ⟨j, hj, rfl⟩ := nI_of c_19
        have hcj : (nI j).toNatClampNeg = j := nI_clamp hj
        refine j_iload_n C dX9_grown_22 rfl 23 rfl ?_
        refine j_iload C dX9_grown_23 rfl 25 rfl ?_
        refine n_icmp_le C 30 28 dX9_grown_25 (by decide) rfl hj (by omega) (fun c_25 => ?_) (fun c_25 => ?_)
        · refine j_aload_n C dX9_grown_30 rfl 31 rfl ?_
          refine j_iload_n C dX9_grown_31 rfl 32 rfl ?_
          refine j_iconst (v := nI 2) C dX9_grown_32 (by decide) 33 rfl ?_
          refine j_iload C dX9_grown_33 rfl 35 rfl ?_
          refine j_iload_n C dX9_grown_35 rfl 36 rfl ?_
          refine j_iconst (v := nI 0) C dX9_grown_36 (by decide) 37 rfl ?_
          refine j_cv C (cs_X9_295 C (ct_X9_begin (h - 1) (by omega) hs) rfl rfl (by omega) (by omega) (by omega) rfl (Nat.le_of_ble_eq_true rfl) dX9_grown_37) 40 rfl ?_
          rintro _ rfl
          refine j_aload_n C dX9_grown_40 rfl 41 rfl ?_
          refine j_iload_n C dX9_grown_41 rfl 42 rfl ?_
          refine j_iload_n C dX9_grown_42 rfl 43 rfl ?_
          refine j_iconst (v := nI 0) C dX9_grown_43 (by decide) 44 rfl ?_
          refine j_iload_n C dX9_grown_44 rfl 45 rfl ?_
          refine j_cv C (cs_X9_299 C (ct_X9_stepLog (I := va_up I 9 (gl_bg (I 9) s (nI 2) (nI m) (nI j) (nI 0))) (s := s) (lg := lg) (a0 := 0) (b := j) (m := 0) (h - 1) (by omega) hs (by omega) (by omega) (by omega) (by rw [gl_up_eq, gl_bg_1]) (by omega)) rfl rfl (by omega) (by omega) (by omega) rfl (Nat.le_of_ble_eq_true rfl) dX9_grown_45) 48 rfl ?_
          rintro _ ⟨I2, rfl, f2, a2, b2⟩
          rw [gl_up_ne (show (2 : Nat) ≠ 9 by decide)] at a2 b2
          have g2 : I2 2 = I 2 := by rw [f2.1 2 (by decide) (by decide), gl_up_ne (show (2 : Nat) ≠ 9 by decide)]
          have l19 := gl_rws_len (K := fun i => I 2 (400 * lg + i)) (V := fun i => L 3 (400 * lg + i)) (a := 0) (b := j) (by omega) (Nat.zero_le _)
          refine j_aload_n C dX9_grown_48 rfl 49 rfl ?_
          refine j_iload_n C dX9_grown_49 rfl 50 rfl ?_
          refine j_iload_n C dX9_grown_50 rfl 51 rfl ?_
          refine j_iload_n C dX9_grown_51 rfl 52 rfl ?_
          refine j_iload C dX9_grown_52 rfl 54 rfl ?_
          refine j_cv C (cs_X9_299 C (ct_X9_stepLog (I := I2) (s := s) (lg := lg) (a0 := j) (b := m) (m := 0 + (gl_rws (fun i => I 2 (400 * lg + i)) (fun i => L 3 (400 * lg + i)) 0 j).length) (h - 1) (by omega) hs (by omega) (by omega) (by omega) (by rw [a2, gl_up_eq]) (by omega)) rfl rfl (by omega) (by omega) (by omega) rfl (Nat.le_of_ble_eq_true rfl) dX9_grown_54) 57 rfl ?_
          rintro _ ⟨I3, rfl, f3, a3, b3⟩
          rw [g2] at a3 b3
          have sp := gl_sP_2 (I := I) (gl_fq.rf.up (by decide) (by decide)) gl_up_eq (gl_up_ne (show (12 : Nat) ≠ 9 by decide)) f2 a2 b2 f3 a3 b3
          refine j_aload_n C dX9_grown_57 rfl 58 rfl ?_
          refine gf_X9_36 C rfl rfl dX9_grown_58 61 rfl ?_
          refine j_bipush (v := nI 8) C dX9_grown_61 (by decide) 63 rfl ?_
          refine j_iload_n C dX9_grown_63 rfl 64 rfl ?_
          refine n_imul C dX9_grown_64 65 rfl ?_
          refine j_iconst (v := nI 1) C dX9_grown_65 (by decide) 66 rfl ?_
          refine n_iadd C dX9_grown_66 67 rfl ?_
          refine j_iald C rfl (by omega) (by decide) dX9_grown_67 68 rfl ?_
          rw [sp.2.1, gl_up_eq]
          exact j_iret C hQ (by rw [gl_grown, if_pos (by rw [gl_gok, c_5, c_15, hcm, gl_in_nI hj (by omega), decide_eq_true (by omega)]; rfl), hcs, hcl, hcj, hcm]; exact ⟨rfl, _, rfl, sp, by rw [f3.1 10 (by decide) (by decide), f2.1 10 (by decide) (by decide), gl_up_ne (show (10 : Nat) ≠ 9 by decide)]⟩) (by omega) (by omega) dX9_grown_68
        · refine j_iconst (v := -1) C dX9_grown_28 (by decide) 29 rfl ?_
          exact j_iret C hQ (by rw [gl_grown, if_neg (by rw [gl_gok, c_5, c_15, hcm, gl_in_nI hj (by omega), decide_eq_false (by omega)]; simp)]; exact ⟨rfl, rfl⟩) (by omega) (by omega) dX9_grown_29
