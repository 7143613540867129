/-! MODULE Model, blames: blame, isMarked, blame asked, reader, smear (by gen55.py) -/
set_option maxRecDepth 100000
/-- two heads are kept as a blame -/
def gl_blm (I : Nat → Nat → Int32) (bm : Nat) (a b : Nat → Int32) : Nat → Nat → Int32 := if bm = 60 then I else gl_u2 (va_up I 15 (gl_cpx b (gl_cpx a (I 15) (56 * bm) true 28) (56 * bm + 28) true 28)) 0 16 (nI (bm + 1))
set_option maxHeartbeats 4000000 in
set_option maxRecDepth 100000 in
theorem ct_X9_blame0 {l : Launch} {δ : gl_Del} {I : Nat → Nat → Int32} {L : Nat → Nat → Int64} {B : Nat → Nat → Bool} {x y nx ny p q bm : Nat} (h : Nat) (hh : 2 ≤ h) (hx : gl_msh x = (0, nx)) (hp : p + 28 ≤ nx) (hnx : nx < 2 ^ 31) (hx15 : x ≠ 15) (hy : gl_msh y = (0, ny)) (hq : q + 28 ≤ ny) (hny : ny < 2 ^ 31) (hy15 : y ≠ 15) (hbm : I 0 16 = nI bm) (hb60 : bm ≤ 60) : gl_Ct l δ yX9_blame (ws_ yX9_blame cX9_blame 5 none) (gl_rm h 0 0) 0 0 [.ref 0, .ref x, .int (nI p), .ref y, .int (nI q)] (gl_mL, I, L, B, gl_mR) (gl_Qv fun S => S = (gl_mL, gl_blm I bm (fun t => I x (p + t)) (fun t => I y (q + t)), L, B, gl_mR)) := by
  refine gl_of (by decide) (Nat.le_of_ble_eq_true rfl) rfl ?_
  intro κ C hQ hlκ hδκ hnL hini
  change gl_Cx κ RX9 _ _ _ at C
  refine j_aload_n C dX9_blame_0 rfl 1 rfl ?_
  refine gf_X9_336 C rfl dX9_blame_1 4 rfl ?_
  rw [hbm]
  refine j_bipush (v := nI 60) C dX9_blame_4 (by decide) 6 rfl ?_
  refine n_icmp_ne C 10 9 dX9_blame_6 (by decide) rfl (by omega) (by omega) (fun c_6 => ?_) (fun c_6 => ?_)
  · refine j_aload_n C dX9_blame_10 rfl 11 rfl ?_
    refine j_iload_n C dX9_blame_11 rfl 12 rfl ?_
    refine j_aload_n C dX9_blame_12 rfl 13 rfl ?_
    refine gf_X9_55 C rfl rfl dX9_blame_13 16 rfl ?_
    refine j_bipush (v := nI 56) C dX9_blame_16 (by decide) 18 rfl ?_
    refine j_aload_n C dX9_blame_18 rfl 19 rfl ?_
    refine gf_X9_336 C rfl dX9_blame_19 22 rfl ?_
    rw [hbm]
    refine n_imul C dX9_blame_22 23 rfl ?_
    refine j_iconst (v := b2i true) C dX9_blame_23 (by decide) 24 rfl ?_
    refine j_cv C (cs_X9_339 C (ct_X9_copy (Λ := gl_mL) (R := gl_mR) (I := I) (x := x) (nx := nx) (p := p) (y := 15) (ny := 3360) (q := (56 * bm)) (al := true) (h - 1) (by omega) hx (by omega) hnx rfl (by omega) (by decide) (Or.inl hx15)) rfl (by omega) (by omega) (by omega) rfl (Nat.le_of_ble_eq_true rfl) dX9_blame_24) 27 rfl ?_
    rintro _ rfl
    refine j_aload_n C dX9_blame_27 rfl 28 rfl ?_
    refine j_iload C dX9_blame_28 rfl 30 rfl ?_
    refine j_aload_n C dX9_blame_30 rfl 31 rfl ?_
    refine gf_X9_55 C rfl rfl dX9_blame_31 34 rfl ?_
    refine j_bipush (v := nI 56) C dX9_blame_34 (by decide) 36 rfl ?_
    refine j_aload_n C dX9_blame_36 rfl 37 rfl ?_
    refine gf_X9_336 C rfl dX9_blame_37 40 rfl ?_
    rw [gl_up_ne (show (0 : Nat) ≠ 15 by decide), hbm]
    refine n_imul C dX9_blame_40 41 rfl ?_
    refine j_bipush (v := nI 28) C dX9_blame_41 (by decide) 43 rfl ?_
    refine n_iadd C dX9_blame_43 44 rfl ?_
    refine j_iconst (v := b2i true) C dX9_blame_44 (by decide) 45 rfl ?_
    refine j_cv C (cs_X9_339 C (ct_X9_copy (Λ := gl_mL) (R := gl_mR) (I := (va_up I 15 (gl_cpx (fun t => I x (p + t)) (I 15) (56 * bm) true 28))) (x := y) (nx := ny) (p := q) (y := 15) (ny := 3360) (q := (56 * bm + 28)) (al := true) (h - 1) (by omega) hy (by omega) hny rfl (by omega) (by decide) (Or.inl hy15)) rfl (by omega) (by omega) (by omega) rfl (Nat.le_of_ble_eq_true rfl) dX9_blame_45) 48 rfl ?_
    rintro _ rfl
    rw [gl_up_up, gl_up_eq, gl_up_ne hy15]
    refine j_aload_n C dX9_blame_48 rfl 49 rfl ?_
    refine j_dup C dX9_blame_49 rfl 50 rfl ?_
    refine gf_X9_336 C rfl dX9_blame_50 53 rfl ?_
    rw [gl_up_ne (show (0 : Nat) ≠ 15 by decide), hbm]
    refine j_iconst (v := nI 1) C dX9_blame_53 (by decide) 54 rfl ?_
    refine n_iadd C dX9_blame_54 55 rfl ?_
    refine pf_X9_336 C rfl dX9_blame_55 58 rfl ?_
    exact j_ret C hQ (by rw [gl_blm, if_neg c_6]) (by omega) (by omega) dX9_blame_58
  · exact j_ret C hQ (by rw [gl_blm, if_pos c_6]) (by omega) (by omega) dX9_blame_9
def gl_mkd (f : Nat → Int32) (p : Nat) : Bool := gl_lk (gl_mark (f (p + 2)) (f p) (fun t => f (p + 4 + t)) (fun t => f (p + 12 + t))) (fun t => f (p + 20 + t)) 8
set_option maxHeartbeats 4000000 in
set_option maxRecDepth 100000 in
theorem ct_X9_isMarked {l : Launch} {δ : gl_Del} {I : Nat → Nat → Int32} {L : Nat → Nat → Int64} {B : Nat → Nat → Bool} {p : Nat} (h : Nat) (hh : 4 ≤ h) (hp : p + 28 ≤ 3360) : gl_Ct l δ yX9_isMarked (ws_ yX9_isMarked cX9_isMarked 2 ((some FieldType.boolean))) (gl_rm h 0 0) 0 0 [.ref 0, .int (nI p)] (gl_mL, I, L, B, gl_mR) (gl_Qi fun r S => r = b2i (gl_mkd (I 15) p) ∧ ∃ I', S = (gl_mL, I', L, B, gl_mR) ∧ gl_fq [39, 40] [] I I') := by
  refine gl_of (by decide) (Nat.le_of_ble_eq_true rfl) rfl ?_
  intro κ C hQ hlκ hδκ hnL hini
  change gl_Cx κ RX9 _ _ _ at C
  refine j_aload_n C dX9_isMarked_0 rfl 1 rfl ?_
  refine j_aload_n C dX9_isMarked_1 rfl 2 rfl ?_
  refine gf_X9_55 C rfl rfl dX9_isMarked_2 5 rfl ?_
  refine j_iload_n C dX9_isMarked_5 rfl 6 rfl ?_
  refine j_iconst (v := nI 2) C dX9_isMarked_6 (by decide) 7 rfl ?_
  refine n_iadd C dX9_isMarked_7 8 rfl ?_
  refine j_iald C rfl (by omega) (by decide) dX9_isMarked_8 9 rfl ?_
  refine j_aload_n C dX9_isMarked_9 rfl 10 rfl ?_
  refine gf_X9_55 C rfl rfl dX9_isMarked_10 13 rfl ?_
  refine j_iload_n C dX9_isMarked_13 rfl 14 rfl ?_
  refine j_iald C rfl (by omega) (by decide) dX9_isMarked_14 15 rfl ?_
  refine j_aload_n C dX9_isMarked_15 rfl 16 rfl ?_
  refine gf_X9_55 C rfl rfl dX9_isMarked_16 19 rfl ?_
  refine j_iload_n C dX9_isMarked_19 rfl 20 rfl ?_
  refine j_iconst (v := nI 4) C dX9_isMarked_20 (by decide) 21 rfl ?_
  refine n_iadd C dX9_isMarked_21 22 rfl ?_
  refine j_iload_n C dX9_isMarked_22 rfl 23 rfl ?_
  refine j_bipush (v := nI 12) C dX9_isMarked_23 (by decide) 25 rfl ?_
  refine n_iadd C dX9_isMarked_25 26 rfl ?_
  refine j_cv C (cs_X9_263 C (ct_X9_mark (I := I) (x := 15) (nx := 3360) (p_ := p + 4) (q_ := p + 12) (h - 1) (by omega) rfl (by decide) (by omega) (by omega) (by decide)) rfl rfl (by omega) (by omega) (by omega) rfl (Nat.le_of_ble_eq_true rfl) dX9_isMarked_26) 29 rfl ?_
  rintro _ ⟨w, rfl⟩
  refine j_aload_n C dX9_isMarked_29 rfl 30 rfl ?_
  refine gf_X9_130 C rfl rfl dX9_isMarked_30 33 rfl ?_
  refine j_iconst (v := nI 0) C dX9_isMarked_33 (by decide) 34 rfl ?_
  refine j_aload_n C dX9_isMarked_34 rfl 35 rfl ?_
  refine gf_X9_55 C rfl rfl dX9_isMarked_35 38 rfl ?_
  refine j_iload_n C dX9_isMarked_38 rfl 39 rfl ?_
  refine j_bipush (v := nI 20) C dX9_isMarked_39 (by decide) 41 rfl ?_
  refine n_iadd C dX9_isMarked_41 42 rfl ?_
  refine j_ci C (cs_X9_318 C (ct_X9_areLike (Λ := gl_mL) (R := gl_mR) (x := 40) (nx := 8) (p := 0) (y := 15) (ny := 3360) (q := p + 20) (h - 1) (by omega) rfl (by decide) (by decide) rfl (by omega) (by decide)) rfl (by omega) (by omega) (by omega) rfl (Nat.le_of_ble_eq_true rfl) dX9_isMarked_42) 45 rfl ?_
  rintro _ _ ⟨rfl, rfl⟩
  rw [gl_lk_congr (f' := gl_mark (I 15 (p + 2)) (I 15 p) (fun t => I 15 (p + 4 + t)) (fun t => I 15 (p + 12 + t))) (g' := fun t => I 15 (p + 20 + t)) 8 (fun t ht => by rw [Nat.zero_add, gl_wm_40]) (fun t ht => by rw [gl_wm_o (by decide) (by decide)])]
  exact j_zret C hQ ⟨rfl, _, rfl, gl_fq.rf.wm (by decide) (by decide)⟩ (by omega) (by omega) dX9_isMarked_45
def gl_blame (I : Nat → Nat → Int32) (bm : Nat) (k w : Int32) : Int32 := if gl_in k bm = true then (if w = nI 0 then I 15 (56 * k.toNatClampNeg) else if w = nI 1 then I 15 (56 * k.toNatClampNeg + 28) else if w = nI 2 then I 15 (56 * k.toNatClampNeg + 2) else if w = nI 3 then b2i (gl_mkd (I 15) (56 * k.toNatClampNeg) && gl_mkd (I 15) (56 * k.toNatClampNeg + 28)) else if w = nI 4 then I 15 (56 * k.toNatClampNeg + 4) else if w = nI 5 then I 15 (56 * k.toNatClampNeg + 28 + 4) else if w = nI 6 then I 15 (56 * k.toNatClampNeg + 12) else if w = nI 7 then I 15 (56 * k.toNatClampNeg + 28 + 12) else -1) else -1
set_option maxHeartbeats 4000000 in
set_option maxRecDepth 100000 in
theorem ct_X9_blame {l : Launch} {δ : gl_Del} {I : Nat → Nat → Int32} {L : Nat → Nat → Int64} {B : Nat → Nat → Bool} {bm : Nat} {k w : Int32} (h : Nat) (hh : 5 ≤ h) (hbm : I 0 16 = nI bm) (hb60 : bm ≤ 60) : gl_Ct l δ yX9_blame_2 (ws_ yX9_blame_2 cX9_blame_2 5 ((some FieldType.int))) (gl_rm h 0 0) 0 0 [.ref 0, .int k, .int w] (gl_mL, I, L, B, gl_mR) (gl_Qi fun r S => r = gl_blame I bm k w ∧ ∃ I', S = (gl_mL, I', L, B, gl_mR) ∧ gl_fq [39, 40] [] I I') := by
  refine gl_of (by decide) (Nat.le_of_ble_eq_true rfl) rfl ?_
  intro κ C hQ hlκ hδκ hnL hini
  change gl_Cx κ RX9 _ _ _ at C
  refine j_iload_n C dX9_blame_2_0 rfl 1 rfl ?_
  refine j_if_lt C 12 4 dX9_blame_2_1 (by decide) rfl (fun c_1 => ?_) (fun c_1 => ?_)
  · refine j_iconst (v := -1) C dX9_blame_2_12 (by decide) 13 rfl ?_
    exact j_iret C hQ ⟨by rw [gl_blame, if_neg (by rw [gl_in_f1 c_1]; decide)], _, rfl, gl_fq.rf⟩ (by omega) (by omega) dX9_blame_2_13
  · obtain ⟨a, ha, rfl⟩ := nI_of c_1
    have hca : (nI a).toNatClampNeg = a := nI_clamp ha
    refine j_iload_n C dX9_blame_2_4 rfl 5 rfl ?_
    refine j_aload_n C dX9_blame_2_5 rfl 6 rfl ?_
    refine gf_X9_336 C rfl dX9_blame_2_6 9 rfl ?_
    rw [hbm]
    refine n_icmp_lt C 14 12 dX9_blame_2_9 (by decide) rfl ha (by omega) (fun c_9 => ?_) (fun c_9 => ?_)
    · refine j_bipush (v := nI 56) C dX9_blame_2_14 (by decide) 16 rfl ?_
      refine j_iload_n C dX9_blame_2_16 rfl 17 rfl ?_
      refine n_imul C dX9_blame_2_17 18 rfl ?_
      refine j_istore_n C dX9_blame_2_18 (Nat.le_of_ble_eq_true rfl) (by rw [hnL]; decide) rfl 19 rfl ?_
      refine j_iload_n C dX9_blame_2_19 rfl 20 rfl ?_
      refine j_bipush (v := nI 28) C dX9_blame_2_20 (by decide) 22 rfl ?_
      refine n_iadd C dX9_blame_2_22 23 rfl ?_
      refine j_istore C dX9_blame_2_23 (Nat.le_of_ble_eq_true rfl) (by rw [hnL]; decide) rfl 25 rfl ?_
      refine j_iload_n C dX9_blame_2_25 rfl 26 rfl ?_
      rcases gl_sw w 8 (by decide) with ⟨k_, hk_, rfl⟩ | ho_
      · rcases (show k_ = 0 ∨ k_ = 1 ∨ k_ = 2 ∨ k_ = 3 ∨ k_ = 4 ∨ k_ = 5 ∨ k_ = 6 ∨ k_ = 7 by omega) with rfl | rfl | rfl | rfl | rfl | rfl | rfl | rfl
        · refine j_tableIn C 72 dX9_blame_2_26 (by decide) (by decide) rfl (by decide) ?_
          refine j_aload_n C dX9_blame_2_72 rfl 73 rfl ?_
          refine gf_X9_55 C rfl rfl dX9_blame_2_73 76 rfl ?_
          refine j_iload_n C dX9_blame_2_76 rfl 77 rfl ?_
          refine j_iald C rfl (by omega) (by decide) dX9_blame_2_77 78 rfl ?_
          exact j_iret C hQ ⟨by rw [gl_blame, if_pos (show gl_in (nI a) bm = true by rw [gl_in_nI ha (by omega), decide_eq_true_iff]; omega), hca]; rfl, _, rfl, gl_fq.rf⟩ (by omega) (by omega) dX9_blame_2_78
        · refine j_tableIn C 79 dX9_blame_2_26 (by decide) (by decide) rfl (by decide) ?_
          refine j_aload_n C dX9_blame_2_79 rfl 80 rfl ?_
          refine gf_X9_55 C rfl rfl dX9_blame_2_80 83 rfl ?_
          refine j_iload C dX9_blame_2_83 rfl 85 rfl ?_
          refine j_iald C rfl (by omega) (by decide) dX9_blame_2_85 86 rfl ?_
          exact j_iret C hQ ⟨by rw [gl_blame, if_pos (show gl_in (nI a) bm = true by rw [gl_in_nI ha (by omega), decide_eq_true_iff]; omega), hca]; rfl, _, rfl, gl_fq.rf⟩ (by omega) (by omega) dX9_blame_2_86
        · refine j_tableIn C 87 dX9_blame_2_26 (by decide) (by decide) rfl (by decide) ?_
          refine j_aload_n C dX9_blame_2_87 rfl 88 rfl ?_
          refine gf_X9_55 C rfl rfl dX9_blame_2_88 91 rfl ?_
          refine j_iload_n C dX9_blame_2_91 rfl 92 rfl ?_
          refine j_iconst (v := nI 2) C dX9_blame_2_92 (by decide) 93 rfl ?_
          refine n_iadd C dX9_blame_2_93 94 rfl ?_
          refine j_iald C rfl (by omega) (by decide) dX9_blame_2_94 95 rfl ?_
          exact j_iret C hQ ⟨by rw [gl_blame, if_pos (show gl_in (nI a) bm = true by rw [gl_in_nI ha (by omega), decide_eq_true_iff]; omega), hca]; rfl, _, rfl, gl_fq.rf⟩ (by omega) (by omega) dX9_blame_2_95
        · refine j_tableIn C 96 dX9_blame_2_26 (by decide) (by decide) rfl (by decide) ?_
          refine j_aload_n C dX9_blame_2_96 rfl 97 rfl ?_
          refine j_iload_n C dX9_blame_2_97 rfl 98 rfl ?_
          refine j_ci C (cs_X9_350 C (ct_X9_isMarked (p := 56 * a) (h - 1) (by omega) (by omega)) rfl rfl (by omega) (by omega) (by omega) rfl (Nat.le_of_ble_eq_true rfl) dX9_blame_2_98) 101 rfl ?_
          rintro _ _ ⟨rfl, I1, rfl, f1⟩
          refine b_if_eq C 117 104 dX9_blame_2_101 (by decide) rfl (fun c_101 => ?_) (fun c_101 => ?_)
          · refine j_iconst (v := b2i false) C dX9_blame_2_117 (by decide) 118 rfl ?_
            exact j_iret C hQ ⟨by rw [gl_blame, if_pos (show gl_in (nI a) bm = true by rw [gl_in_nI ha (by omega), decide_eq_true_iff]; omega), hca, c_101]; rfl, _, rfl, f1⟩ (by omega) (by omega) dX9_blame_2_118
          · refine j_aload_n C dX9_blame_2_104 rfl 105 rfl ?_
            refine j_iload C dX9_blame_2_105 rfl 107 rfl ?_
            refine j_ci C (cs_X9_350 C (ct_X9_isMarked (p := 56 * a + 28) (h - 1) (by omega) (by omega)) rfl rfl (by omega) (by omega) (by omega) rfl (Nat.le_of_ble_eq_true rfl) dX9_blame_2_107) 110 rfl ?_
            rintro _ _ ⟨rfl, I2, rfl, f2⟩
            rw [f1.1 15 (by decide) (by decide)]
            refine b_if_eq C 117 113 dX9_blame_2_110 (by decide) rfl (fun c_110 => ?_) (fun c_110 => ?_)
            · refine j_iconst (v := b2i false) C dX9_blame_2_117 (by decide) 118 rfl ?_
              exact j_iret C hQ ⟨by rw [gl_blame, if_pos (show gl_in (nI a) bm = true by rw [gl_in_nI ha (by omega), decide_eq_true_iff]; omega), hca, c_101, c_110]; rfl, _, rfl, f1.tr f2⟩ (by omega) (by omega) dX9_blame_2_118
            · refine j_iconst (v := b2i true) C dX9_blame_2_113 (by decide) 114 rfl ?_
              refine j_goto (tgt := 118) C dX9_blame_2_114 (by decide) ?_
              exact j_iret C hQ ⟨by rw [gl_blame, if_pos (show gl_in (nI a) bm = true by rw [gl_in_nI ha (by omega), decide_eq_true_iff]; omega), hca, c_101, c_110]; rfl, _, rfl, f1.tr f2⟩ (by omega) (by omega) dX9_blame_2_118
        · refine j_tableIn C 119 dX9_blame_2_26 (by decide) (by decide) rfl (by decide) ?_
          refine j_aload_n C dX9_blame_2_119 rfl 120 rfl ?_
          refine gf_X9_55 C rfl rfl dX9_blame_2_120 123 rfl ?_
          refine j_iload_n C dX9_blame_2_123 rfl 124 rfl ?_
          refine j_iconst (v := nI 4) C dX9_blame_2_124 (by decide) 125 rfl ?_
          refine n_iadd C dX9_blame_2_125 126 rfl ?_
          refine j_iald C rfl (by omega) (by decide) dX9_blame_2_126 127 rfl ?_
          exact j_iret C hQ ⟨by rw [gl_blame, if_pos (show gl_in (nI a) bm = true by rw [gl_in_nI ha (by omega), decide_eq_true_iff]; omega), hca]; rfl, _, rfl, gl_fq.rf⟩ (by omega) (by omega) dX9_blame_2_127
        · refine j_tableIn C 128 dX9_blame_2_26 (by decide) (by decide) rfl (by decide) ?_
          refine j_aload_n C dX9_blame_2_128 rfl 129 rfl ?_
          refine gf_X9_55 C rfl rfl dX9_blame_2_129 132 rfl ?_
          refine j_iload C dX9_blame_2_132 rfl 134 rfl ?_
          refine j_iconst (v := nI 4) C dX9_blame_2_134 (by decide) 135 rfl ?_
          refine n_iadd C dX9_blame_2_135 136 rfl ?_
          refine j_iald C rfl (by omega) (by decide) dX9_blame_2_136 137 rfl ?_
          exact j_iret C hQ ⟨by rw [gl_blame, if_pos (show gl_in (nI a) bm = true by rw [gl_in_nI ha (by omega), decide_eq_true_iff]; omega), hca]; rfl, _, rfl, gl_fq.rf⟩ (by omega) (by omega) dX9_blame_2_137
        · refine j_tableIn C 138 dX9_blame_2_26 (by decide) (by decide) rfl (by decide) ?_
          refine j_aload_n C dX9_blame_2_138 rfl 139 rfl ?_
          refine gf_X9_55 C rfl rfl dX9_blame_2_139 142 rfl ?_
          refine j_iload_n C dX9_blame_2_142 rfl 143 rfl ?_
          refine j_bipush (v := nI 12) C dX9_blame_2_143 (by decide) 145 rfl ?_
          refine n_iadd C dX9_blame_2_145 146 rfl ?_
          refine j_iald C rfl (by omega) (by decide) dX9_blame_2_146 147 rfl ?_
          exact j_iret C hQ ⟨by rw [gl_blame, if_pos (show gl_in (nI a) bm = true by rw [gl_in_nI ha (by omega), decide_eq_true_iff]; omega), hca]; rfl, _, rfl, gl_fq.rf⟩ (by omega) (by omega) dX9_blame_2_147
        · refine j_tableIn C 148 dX9_blame_2_26 (by decide) (by decide) rfl (by decide) ?_
          refine j_aload_n C dX9_blame_2_148 rfl 149 rfl ?_
          refine gf_X9_55 C rfl rfl dX9_blame_2_149 152 rfl ?_
          refine j_iload C dX9_blame_2_152 rfl 154 rfl ?_
          refine j_bipush (v := nI 12) C dX9_blame_2_154 (by decide) 156 rfl ?_
          refine n_iadd C dX9_blame_2_156 157 rfl ?_
          refine j_iald C rfl (by omega) (by decide) dX9_blame_2_157 158 rfl ?_
          exact j_iret C hQ ⟨by rw [gl_blame, if_pos (show gl_in (nI a) bm = true by rw [gl_in_nI ha (by omega), decide_eq_true_iff]; omega), hca]; rfl, _, rfl, gl_fq.rf⟩ (by omega) (by omega) dX9_blame_2_158
      · refine j_tableOut C 159 dX9_blame_2_26 (by omega) (by decide) ?_
        refine j_iconst (v := -1) C dX9_blame_2_159 (by decide) 160 rfl ?_
        exact j_iret C hQ ⟨by rw [gl_blame, if_pos (show gl_in (nI a) bm = true by rw [gl_in_nI ha (by omega), decide_eq_true_iff]; omega), hca, if_neg (gl_out (n := 8) (by decide) (by decide) ho_), if_neg (gl_out (n := 8) (by decide) (by decide) ho_), if_neg (gl_out (n := 8) (by decide) (by decide) ho_), if_neg (gl_out (n := 8) (by decide) (by decide) ho_), if_neg (gl_out (n := 8) (by decide) (by decide) ho_), if_neg (gl_out (n := 8) (by decide) (by decide) ho_), if_neg (gl_out (n := 8) (by decide) (by decide) ho_), if_neg (gl_out (n := 8) (by decide) (by decide) ho_)], _, rfl, gl_fq.rf⟩ (by omega) (by omega) dX9_blame_2_160
    · refine j_iconst (v := -1) C dX9_blame_2_12 (by decide) 13 rfl ?_
      exact j_iret C hQ ⟨by rw [gl_blame, if_neg (by rw [gl_in_nI ha (by omega), decide_eq_true_iff]; omega)], _, rfl, gl_fq.rf⟩ (by omega) (by omega) dX9_blame_2_13
def gl_reader (I : Nat → Nat → Int32) (B : Nat → Nat → Bool) (x w : Int32) : Int32 := if gl_in x 12 = true then (if w = nI 3 then I 13 (28 * x.toNatClampNeg + 3) else if gl_in w 3 = true ∧ B 14 x.toNatClampNeg = true then I 13 (28 * x.toNatClampNeg + w.toNatClampNeg) else -1) else -1
set_option maxHeartbeats 4000000 in
set_option maxRecDepth 100000 in
theorem ct_X9_reader {l : Launch} {δ : gl_Del} {I : Nat → Nat → Int32} {L : Nat → Nat → Int64} {B : Nat → Nat → Bool} {x w : Int32} (h : Nat) (hh : 2 ≤ h)  : gl_Ct l δ yX9_reader (ws_ yX9_reader cX9_reader 3 ((some FieldType.int))) (gl_rm h 0 0) 0 0 [.ref 0, .int x, .int w] (gl_mL, I, L, B, gl_mR) (gl_Qi fun r S => r = gl_reader I B x w ∧ S = (gl_mL, I, L, B, gl_mR)) := by
  refine gl_of (by decide) (Nat.le_of_ble_eq_true rfl) rfl ?_
  intro κ C hQ hlκ hδκ hnL hini
  change gl_Cx κ RX9 _ _ _ at C
  refine j_aload_n C dX9_reader_0 rfl 1 rfl ?_
  refine j_iload_n C dX9_reader_1 rfl 2 rfl ?_
  refine j_ci C (cs_X9_322 C (ct_X9_isReader (h - 1) (by omega)) rfl rfl (by omega) (by omega) (by omega) rfl (Nat.le_of_ble_eq_true rfl) dX9_reader_2) 5 rfl ?_
  rintro _ _ ⟨rfl, rfl⟩
  refine b_if_ne C 10 8 dX9_reader_5 (by decide) rfl (fun c_5 => ?_) (fun c_5 => ?_)
  · obtain ⟨a, ha, rfl⟩ := (gl_in_iff (by decide)).mp c_5
    have hca : (nI a).toNatClampNeg = a := nI_clamp (by omega)
    refine j_iload_n C dX9_reader_10 rfl 11 rfl ?_
    refine j_iconst (v := nI 3) C dX9_reader_11 (by decide) 12 rfl ?_
    refine j_icmp_ne C 27 15 dX9_reader_12 (by decide) rfl (fun c_12 => ?_) (fun c_12 => ?_)
    · refine j_iload_n C dX9_reader_27 rfl 28 rfl ?_
      refine j_if_lt C 59 31 dX9_reader_28 (by decide) rfl (fun c_28 => ?_) (fun c_28 => ?_)
      · refine j_iconst (v := -1) C dX9_reader_59 (by decide) 60 rfl ?_
        exact j_iret C hQ ⟨by rw [gl_reader, if_pos c_5, hca, if_neg c_12, if_neg (fun q => by rw [gl_in_f1 c_28] at q; cases q.1)], rfl⟩ (by omega) (by omega) dX9_reader_60
      · obtain ⟨w_, hw_, rfl⟩ := nI_of c_28
        refine j_iload_n C dX9_reader_31 rfl 32 rfl ?_
        refine j_iconst (v := nI 3) C dX9_reader_32 (by decide) 33 rfl ?_
        refine n_icmp_ge C 59 36 dX9_reader_33 (by decide) rfl hw_ (by omega) (fun c_33 => ?_) (fun c_33 => ?_)
        · refine j_iconst (v := -1) C dX9_reader_59 (by decide) 60 rfl ?_
          exact j_iret C hQ ⟨by rw [gl_reader, if_pos c_5, hca, if_neg c_12, if_neg (fun q => by rw [gl_in_nI hw_ (by decide), decide_eq_true_iff] at q; omega)], rfl⟩ (by omega) (by omega) dX9_reader_60
        · refine j_aload_n C dX9_reader_36 rfl 37 rfl ?_
          refine gf_X9_52 C rfl rfl dX9_reader_37 40 rfl ?_
          refine j_iload_n C dX9_reader_40 rfl 41 rfl ?_
          refine j_zald C rfl (by omega) (by decide) dX9_reader_41 42 rfl ?_
          refine b_if_eq C 59 45 dX9_reader_42 (by decide) rfl (fun c_42 => ?_) (fun c_42 => ?_)
          · refine j_iconst (v := -1) C dX9_reader_59 (by decide) 60 rfl ?_
            exact j_iret C hQ ⟨by rw [gl_reader, if_pos c_5, hca, if_neg c_12, if_neg (fun q => by rw [c_42] at q; cases q.2)], rfl⟩ (by omega) (by omega) dX9_reader_60
          · refine j_aload_n C dX9_reader_45 rfl 46 rfl ?_
            refine gf_X9_49 C rfl rfl dX9_reader_46 49 rfl ?_
            refine j_bipush (v := nI 28) C dX9_reader_49 (by decide) 51 rfl ?_
            refine j_iload_n C dX9_reader_51 rfl 52 rfl ?_
            refine n_imul C dX9_reader_52 53 rfl ?_
            refine j_iload_n C dX9_reader_53 rfl 54 rfl ?_
            refine n_iadd C dX9_reader_54 55 rfl ?_
            refine j_iald C rfl (by omega) (by decide) dX9_reader_55 56 rfl ?_
            refine j_goto (tgt := 60) C dX9_reader_56 (by decide) ?_
            exact j_iret C hQ ⟨by rw [gl_reader, if_pos c_5, hca, if_neg c_12, if_pos ⟨by rw [gl_in_nI hw_ (by decide), decide_eq_true_iff]; omega, c_42⟩, nI_clamp hw_], rfl⟩ (by omega) (by omega) dX9_reader_60
    · refine j_aload_n C dX9_reader_15 rfl 16 rfl ?_
      refine gf_X9_49 C rfl rfl dX9_reader_16 19 rfl ?_
      refine j_bipush (v := nI 28) C dX9_reader_19 (by decide) 21 rfl ?_
      refine j_iload_n C dX9_reader_21 rfl 22 rfl ?_
      refine n_imul C dX9_reader_22 23 rfl ?_
      refine j_iconst (v := nI 3) C dX9_reader_23 (by decide) 24 rfl ?_
      refine n_iadd C dX9_reader_24 25 rfl ?_
      refine j_iald C rfl (by omega) (by decide) dX9_reader_25 26 rfl ?_
      exact j_iret C hQ ⟨by rw [gl_reader, if_pos c_5, hca, if_pos c_12], rfl⟩ (by omega) (by omega) dX9_reader_26
  · refine j_iconst (v := -1) C dX9_reader_8 (by decide) 9 rfl ?_
    exact j_iret C hQ ⟨by rw [gl_reader, if_neg (by rw [c_5]; decide)], rfl⟩ (by omega) (by omega) dX9_reader_9
def gl_smear (I : Nat → Nat → Int32) (L : Nat → Nat → Int64) (B : Nat → Nat → Bool) (bm : Nat) (k j mk : Int32) : Int32 × gl_Sto := if gl_in k bm = true ∧ gl_in j 8 = true then (b2i true, (gl_mL, gl_u2 I 15 (56 * k.toNatClampNeg + 28 + 20 + j.toNatClampNeg) (I 15 (56 * k.toNatClampNeg + 28 + 20 + j.toNatClampNeg) ^^^ mk), L, B, gl_mR)) else (b2i false, (gl_mL, I, L, B, gl_mR))
set_option maxHeartbeats 4000000 in
set_option maxRecDepth 100000 in
theorem ct_X9_smear {l : Launch} {δ : gl_Del} {I : Nat → Nat → Int32} {L : Nat → Nat → Int64} {B : Nat → Nat → Bool} {bm : Nat} {k j mk : Int32} (h : Nat) (hh : 1 ≤ h) (hbm : I 0 16 = nI bm) (hb60 : bm ≤ 60) : gl_Ct l δ yX9_smear (ws_ yX9_smear cX9_smear 4 ((some FieldType.boolean))) (gl_rm h 0 0) 0 0 [.ref 0, .int k, .int j, .int mk] (gl_mL, I, L, B, gl_mR) (gl_Qi fun r S => (r, S) = gl_smear I L B bm k j mk) := by
  refine gl_of (by decide) (Nat.le_of_ble_eq_true rfl) rfl ?_
  intro κ C hQ hlκ hδκ hnL hini
  change gl_Cx κ RX9 _ _ _ at C
  refine j_iload_n C dX9_smear_0 rfl 1 rfl ?_
  refine j_if_lt C 22 4 dX9_smear_1 (by decide) rfl (fun c_1 => ?_) (fun c_1 => ?_)
  · refine j_iconst (v := b2i false) C dX9_smear_22 (by decide) 23 rfl ?_
    exact j_zret C hQ (by rw [gl_smear, if_neg (fun q => by rw [gl_in_f1 c_1] at q; cases q.1)]) (by omega) (by omega) dX9_smear_23
  · obtain ⟨a, ha, rfl⟩ := nI_of c_1
    have hca : (nI a).toNatClampNeg = a := nI_clamp ha
    refine j_iload_n C dX9_smear_4 rfl 5 rfl ?_
    refine j_aload_n C dX9_smear_5 rfl 6 rfl ?_
    refine gf_X9_336 C rfl dX9_smear_6 9 rfl ?_
    rw [hbm]
    refine n_icmp_ge C 22 12 dX9_smear_9 (by decide) rfl ha (by omega) (fun c_9 => ?_) (fun c_9 => ?_)
    · refine j_iconst (v := b2i false) C dX9_smear_22 (by decide) 23 rfl ?_
      exact j_zret C hQ (by rw [gl_smear, if_neg (fun q => by rw [gl_in_nI ha (by omega), decide_eq_true_iff] at q; omega)]) (by omega) (by omega) dX9_smear_23
    · refine j_iload_n C dX9_smear_12 rfl 13 rfl ?_
      refine j_if_lt C 22 16 dX9_smear_13 (by decide) rfl (fun c_13 => ?_) (fun c_13 => ?_)
      · refine j_iconst (v := b2i false) C dX9_smear_22 (by decide) 23 rfl ?_
        exact j_zret C hQ (by rw [gl_smear, if_neg (fun q => by rw [gl_in_f1 c_13] at q; cases q.2)]) (by omega) (by omega) dX9_smear_23
      · obtain ⟨j_, hj_, rfl⟩ := nI_of c_13
        refine j_iload_n C dX9_smear_16 rfl 17 rfl ?_
        refine j_bipush (v := nI 7) C dX9_smear_17 (by decide) 19 rfl ?_
        refine n_icmp_le C 24 22 dX9_smear_19 (by decide) rfl hj_ (by omega) (fun c_19 => ?_) (fun c_19 => ?_)
        · refine j_aload_n C dX9_smear_24 rfl 25 rfl ?_
          refine gf_X9_55 C rfl rfl dX9_smear_25 28 rfl ?_
          refine j_bipush (v := nI 56) C dX9_smear_28 (by decide) 30 rfl ?_
          refine j_iload_n C dX9_smear_30 rfl 31 rfl ?_
          refine n_imul C dX9_smear_31 32 rfl ?_
          refine j_bipush (v := nI 28) C dX9_smear_32 (by decide) 34 rfl ?_
          refine n_iadd C dX9_smear_34 35 rfl ?_
          refine j_bipush (v := nI 20) C dX9_smear_35 (by decide) 37 rfl ?_
          refine n_iadd C dX9_smear_37 38 rfl ?_
          refine j_iload_n C dX9_smear_38 rfl 39 rfl ?_
          refine n_iadd C dX9_smear_39 40 rfl ?_
          refine j_dup2 C dX9_smear_40 rfl rfl 41 rfl ?_
          refine j_iald C rfl (by omega) (by decide) dX9_smear_41 42 rfl ?_
          refine j_iload_n C dX9_smear_42 rfl 43 rfl ?_
          refine j_ixor C dX9_smear_43 44 rfl ?_
          refine j_iast C rfl (by omega) (by decide) dX9_smear_44 45 rfl ?_
          refine j_iconst (v := b2i true) C dX9_smear_45 (by decide) 46 rfl ?_
          exact j_zret C hQ (by rw [gl_smear, if_pos ⟨by rw [gl_in_nI ha (by omega), decide_eq_true_iff]; omega, by rw [gl_in_nI hj_ (n := 8) (by decide), decide_eq_true_iff]; omega⟩, hca, nI_clamp hj_]) (by omega) (by omega) dX9_smear_46
        · refine j_iconst (v := b2i false) C dX9_smear_22 (by decide) 23 rfl ?_
          exact j_zret C hQ (by rw [gl_smear, if_neg (fun q => by rw [gl_in_nI hj_ (n := 8) (by decide), decide_eq_true_iff] at q; omega)]) (by omega) (by omega) dX9_smear_23
