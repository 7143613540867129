/-! MODULE Model, logs: open, add, keep, say, hide, lag, prune, latest (by gen41.py) -/
set_option maxRecDepth 100000
/-- the reference's logs are in order: lm of them, mn entries each, hd and ld words, since when -/
def gl_LI (I : Nat → Nat → Int32) (lm : Nat) (mn hd ld : Nat → Nat) (sn : Nat → Nat → Nat) : Prop := I 0 1 = nI lm ∧ lm ≤ 6 ∧ ∀ k, k < lm → I 1 (4 * k + 1) = nI (mn k) ∧ mn k ≤ 400 ∧ I 1 (4 * k + 2) = nI (hd k) ∧ I 1 (4 * k + 3) = nI (ld k) ∧ hd k + ld k ≤ 100 ∧ ∀ w, w < hd k + ld k → I 7 (100 * k + w) = nI (sn k w) ∧ sn k w ≤ mn k
theorem gl_LI.w {I : Nat → Nat → Int32} {lm : Nat} {mn hd ld : Nat → Nat} {sn : Nat → Nat → Nat} (h : gl_LI I lm mn hd ld sn) {k : Nat} (hk : k < lm) : I 1 (4 * k + 2) + I 1 (4 * k + 3) = nI (hd k + ld k) := by
  rw [(h.2.2 k hk).2.2.1, (h.2.2 k hk).2.2.2.1, nI_add]
theorem gl_clamp {k : Nat} (h : k < 2 ^ 31) : (nI k).toNatClampNeg = k := nI_clamp h
/-- open -/
def gl_open (I : Nat → Nat → Int32) (L : Nat → Nat → Int64) (B : Nat → Nat → Bool) (lm : Nat) (x : Int32) : Int32 × gl_Sto := if gl_in x 4 = true ∧ lm ≠ 6 then (nI lm, (gl_mL, gl_u2 (gl_u2 (gl_u2 (gl_u2 (gl_u2 I 1 (4 * lm) x) 1 (4 * lm + 1) (nI 0)) 1 (4 * lm + 2) (nI 0)) 1 (4 * lm + 3) (nI 0)) 0 1 (nI (lm + 1)), L, B, gl_mR)) else (-1, (gl_mL, I, L, B, gl_mR))
set_option maxHeartbeats 4000000 in
set_option maxRecDepth 100000 in
theorem ct_X9_open {l : Launch} {δ : gl_Del} {I : Nat → Nat → Int32} {L : Nat → Nat → Int64} {B : Nat → Nat → Bool} {lm : Nat} {mn hd ld : Nat → Nat} {sn : Nat → Nat → Nat} {x : Int32} (h : Nat) (hh : 1 ≤ h) (H : gl_LI I lm mn hd ld sn) : gl_Ct l δ yX9_open (ws_ yX9_open cX9_open 2 ((some FieldType.int))) (gl_rm h 0 0) 0 0 [.ref 0, .int x] (gl_mL, I, L, B, gl_mR) (gl_Qi fun r S => (r, S) = gl_open I L B lm x) := by
  refine gl_of (by decide) (Nat.le_of_ble_eq_true rfl) rfl ?_
  intro κ C hQ hlκ hδκ hnL hini
  change gl_Cx κ RX9 _ _ _ at C
  have hlm6 : lm ≤ 6 := H.2.1
  refine j_iload_n C dX9_open_0 rfl 1 rfl ?_
  refine j_if_lt C 18 4 dX9_open_1 (by decide) rfl (fun c_1 => ?_) (fun c_1 => ?_)
  · refine j_iconst (v := -1) C dX9_open_18 (by decide) 19 rfl ?_
    exact j_iret C hQ (by rw [gl_open, if_neg (fun q => by rw [gl_in_f1 c_1] at q; cases q.1)]) (by omega) (by omega) dX9_open_19
  · obtain ⟨k, hk, rfl⟩ := nI_of c_1
    refine j_iload_n C dX9_open_4 rfl 5 rfl ?_
    refine j_iconst (v := nI 3) C dX9_open_5 (by decide) 6 rfl ?_
    refine n_icmp_gt C 18 9 dX9_open_6 (by decide) rfl (by omega) (by omega) (fun c_6 => ?_) (fun c_6 => ?_)
    · refine j_iconst (v := -1) C dX9_open_18 (by decide) 19 rfl ?_
      exact j_iret C hQ (by rw [gl_open, if_neg (fun q => by rw [gl_in_nI hk (by decide), decide_eq_true_iff] at q; omega)]) (by omega) (by omega) dX9_open_19
    · refine j_aload_n C dX9_open_9 rfl 10 rfl ?_
      refine gf_X9_267 C rfl dX9_open_10 13 rfl ?_
      rw [H.1]
      refine j_bipush (v := nI 6) C dX9_open_13 (by decide) 15 rfl ?_
      refine n_icmp_ne C 20 18 dX9_open_15 (by decide) rfl (by omega) (by omega) (fun c_15 => ?_) (fun c_15 => ?_)
      · refine j_aload_n C dX9_open_20 rfl 21 rfl ?_
        refine gf_X9_9 C rfl rfl dX9_open_21 24 rfl ?_
        refine j_iconst (v := nI 4) C dX9_open_24 (by decide) 25 rfl ?_
        refine j_aload_n C dX9_open_25 rfl 26 rfl ?_
        refine gf_X9_267 C rfl dX9_open_26 29 rfl ?_
        rw [H.1]
        refine n_imul C dX9_open_29 30 rfl ?_
        refine j_iload_n C dX9_open_30 rfl 31 rfl ?_
        refine j_iast C rfl (by omega) (by decide) dX9_open_31 32 rfl ?_
        refine j_aload_n C dX9_open_32 rfl 33 rfl ?_
        refine gf_X9_9 C rfl rfl dX9_open_33 36 rfl ?_
        refine j_iconst (v := nI 4) C dX9_open_36 (by decide) 37 rfl ?_
        refine j_aload_n C dX9_open_37 rfl 38 rfl ?_
        refine gf_X9_267 C rfl dX9_open_38 41 rfl ?_
        rw [gl_u2_ne (show (0 : Nat) ≠ 1 by decide), H.1]
        refine n_imul C dX9_open_41 42 rfl ?_
        refine j_iconst (v := nI 1) C dX9_open_42 (by decide) 43 rfl ?_
        refine n_iadd C dX9_open_43 44 rfl ?_
        refine j_iconst (v := nI 0) C dX9_open_44 (by decide) 45 rfl ?_
        refine j_iast C rfl (by omega) (by decide) dX9_open_45 46 rfl ?_
        refine j_aload_n C dX9_open_46 rfl 47 rfl ?_
        refine gf_X9_9 C rfl rfl dX9_open_47 50 rfl ?_
        refine j_iconst (v := nI 4) C dX9_open_50 (by decide) 51 rfl ?_
        refine j_aload_n C dX9_open_51 rfl 52 rfl ?_
        refine gf_X9_267 C rfl dX9_open_52 55 rfl ?_
        rw [gl_u2_ne (show (0 : Nat) ≠ 1 by decide), gl_u2_ne (show (0 : Nat) ≠ 1 by decide), H.1]
        refine n_imul C dX9_open_55 56 rfl ?_
        refine j_iconst (v := nI 2) C dX9_open_56 (by decide) 57 rfl ?_
        refine n_iadd C dX9_open_57 58 rfl ?_
        refine j_iconst (v := nI 0) C dX9_open_58 (by decide) 59 rfl ?_
        refine j_iast C rfl (by omega) (by decide) dX9_open_59 60 rfl ?_
        refine j_aload_n C dX9_open_60 rfl 61 rfl ?_
        refine gf_X9_9 C rfl rfl dX9_open_61 64 rfl ?_
        refine j_iconst (v := nI 4) C dX9_open_64 (by decide) 65 rfl ?_
        refine j_aload_n C dX9_open_65 rfl 66 rfl ?_
        refine gf_X9_267 C rfl dX9_open_66 69 rfl ?_
        rw [gl_u2_ne (show (0 : Nat) ≠ 1 by decide), gl_u2_ne (show (0 : Nat) ≠ 1 by decide), gl_u2_ne (show (0 : Nat) ≠ 1 by decide), H.1]
        refine n_imul C dX9_open_69 70 rfl ?_
        refine j_iconst (v := nI 3) C dX9_open_70 (by decide) 71 rfl ?_
        refine n_iadd C dX9_open_71 72 rfl ?_
        refine j_iconst (v := nI 0) C dX9_open_72 (by decide) 73 rfl ?_
        refine j_iast C rfl (by omega) (by decide) dX9_open_73 74 rfl ?_
        refine j_aload_n C dX9_open_74 rfl 75 rfl ?_
        refine j_dup C dX9_open_75 rfl 76 rfl ?_
        refine gf_X9_267 C rfl dX9_open_76 79 rfl ?_
        rw [gl_u2_ne (show (0 : Nat) ≠ 1 by decide), gl_u2_ne (show (0 : Nat) ≠ 1 by decide), gl_u2_ne (show (0 : Nat) ≠ 1 by decide), gl_u2_ne (show (0 : Nat) ≠ 1 by decide), H.1]
        refine j_iconst (v := nI 1) C dX9_open_79 (by decide) 80 rfl ?_
        refine n_iadd C dX9_open_80 81 rfl ?_
        refine pf_X9_267 C rfl dX9_open_81 84 rfl ?_
        refine j_aload_n C dX9_open_84 rfl 85 rfl ?_
        refine gf_X9_267 C rfl dX9_open_85 88 rfl ?_
        rw [gl_u2_eq, gl_up_eq]
        refine j_iconst (v := nI 1) C dX9_open_88 (by decide) 89 rfl ?_
        refine n_isub C dX9_open_89 (by omega) 90 rfl ?_
        rw [show lm + 1 - 1 = lm by omega]
        exact j_iret C hQ (by rw [gl_open, if_pos ⟨by rw [gl_in_nI hk (by decide), decide_eq_true_iff]; omega, c_15⟩]) (by omega) (by omega) dX9_open_90
      · refine j_iconst (v := -1) C dX9_open_18 (by decide) 19 rfl ?_
        exact j_iret C hQ (by rw [gl_open, if_neg (fun q => q.2 c_15)]) (by omega) (by omega) dX9_open_19
/-- add -/
def gl_add (I : Nat → Nat → Int32) (L : Nat → Nat → Int64) (B : Nat → Nat → Bool) (lm : Nat) (mn : Nat → Nat) (x ky : Int32) (v : Int64) : Int32 × gl_Sto := if gl_in x lm = true ∧ mn x.toNatClampNeg ≠ 400 then (nI (mn x.toNatClampNeg + 1), (gl_mL, gl_u2 (gl_u2 I 2 (400 * x.toNatClampNeg + mn x.toNatClampNeg) ky) 1 (4 * x.toNatClampNeg + 1) (nI (mn x.toNatClampNeg + 1)), gl_u2 L 3 (400 * x.toNatClampNeg + mn x.toNatClampNeg) v, gl_u2 (gl_u2 B 4 (400 * x.toNatClampNeg + mn x.toNatClampNeg) false) 5 (400 * x.toNatClampNeg + mn x.toNatClampNeg) false, gl_mR)) else (-1, (gl_mL, I, L, B, gl_mR))
set_option maxHeartbeats 4000000 in
set_option maxRecDepth 100000 in
theorem ct_X9_add {l : Launch} {δ : gl_Del} {I : Nat → Nat → Int32} {L : Nat → Nat → Int64} {B : Nat → Nat → Bool} {lm : Nat} {mn hd ld : Nat → Nat} {sn : Nat → Nat → Nat} {x ky : Int32} {v : Int64} (h : Nat) (hh : 2 ≤ h) (H : gl_LI I lm mn hd ld sn) : gl_Ct l δ yX9_add (ws_ yX9_add cX9_add 6 ((some FieldType.int))) (gl_rm h 0 0) 0 0 [.ref 0, .int x, .int ky, .long v] (gl_mL, I, L, B, gl_mR) (gl_Qi fun r S => (r, S) = gl_add I L B lm mn x ky v) := by
  refine gl_of (by decide) (Nat.le_of_ble_eq_true rfl) rfl ?_
  intro κ C hQ hlκ hδκ hnL hini
  change gl_Cx κ RX9 _ _ _ at C
  have hlm6 : lm ≤ 6 := H.2.1
  refine j_aload_n C dX9_add_0 rfl 1 rfl ?_
  refine j_iload_n C dX9_add_1 rfl 2 rfl ?_
  refine j_ci C (cs_X9_270 C (ct_X9_isLog (h - 1) (by omega) H.1) rfl rfl (by omega) (by omega) (by omega) rfl (Nat.le_of_ble_eq_true rfl) dX9_add_2) 5 rfl ?_
  rintro _ _ ⟨rfl, rfl⟩
  refine b_if_eq C 19 8 dX9_add_5 (by decide) rfl (fun c_5 => ?_) (fun c_5 => ?_)
  · refine j_iconst (v := -1) C dX9_add_19 (by decide) 20 rfl ?_
    exact j_iret C hQ (by rw [gl_add, if_neg (fun q => by rw [c_5] at q; cases q.1)]) (by omega) (by omega) dX9_add_20
  · obtain ⟨lg, hlg, rfl⟩ := (gl_in_iff (by omega)).mp c_5
    have hcl : (nI lg).toNatClampNeg = lg := nI_clamp (by omega)
    have hk := H.2.2 lg hlg
    refine j_aload_n C dX9_add_8 rfl 9 rfl ?_
    refine j_iload_n C dX9_add_9 rfl 10 rfl ?_
    refine j_ci C (cs_X9_274 C (ct_X9_many (h - 1) (by omega) (by omega)) rfl rfl (by omega) (by omega) (by omega) rfl (Nat.le_of_ble_eq_true rfl) dX9_add_10) 13 rfl ?_
    rintro _ _ ⟨rfl, rfl⟩
    rw [hk.1]
    refine j_sipush (v := nI 400) C dX9_add_13 (by decide) 16 rfl ?_
    refine n_icmp_ne C 21 19 dX9_add_16 (by decide) rfl (by omega) (by omega) (fun c_16 => ?_) (fun c_16 => ?_)
    · refine j_sipush (v := nI 400) C dX9_add_21 (by decide) 24 rfl ?_
      refine j_iload_n C dX9_add_24 rfl 25 rfl ?_
      refine n_imul C dX9_add_25 26 rfl ?_
      refine j_aload_n C dX9_add_26 rfl 27 rfl ?_
      refine j_iload_n C dX9_add_27 rfl 28 rfl ?_
      refine j_ci C (cs_X9_274 C (ct_X9_many (h - 1) (by omega) (by omega)) rfl rfl (by omega) (by omega) (by omega) rfl (Nat.le_of_ble_eq_true rfl) dX9_add_28) 31 rfl ?_
      rintro _ _ ⟨rfl, rfl⟩
      rw [hk.1]
      refine n_iadd C dX9_add_31 32 rfl ?_
      refine j_istore C dX9_add_32 (Nat.le_of_ble_eq_true rfl) (by rw [hnL]; decide) rfl 34 rfl ?_
      refine j_aload_n C dX9_add_34 rfl 35 rfl ?_
      refine gf_X9_13 C rfl rfl dX9_add_35 38 rfl ?_
      refine j_iload C dX9_add_38 rfl 40 rfl ?_
      refine j_iload_n C dX9_add_40 rfl 41 rfl ?_
      refine j_iast C rfl (by omega) (by decide) dX9_add_41 42 rfl ?_
      refine j_aload_n C dX9_add_42 rfl 43 rfl ?_
      refine gf_X9_16 C rfl rfl dX9_add_43 46 rfl ?_
      refine j_iload C dX9_add_46 rfl 48 rfl ?_
      refine j_lload_n C dX9_add_48 rfl 49 rfl ?_
      refine j_last C rfl (by omega) (by decide) dX9_add_49 50 rfl ?_
      refine j_aload_n C dX9_add_50 rfl 51 rfl ?_
      refine gf_X9_20 C rfl rfl dX9_add_51 54 rfl ?_
      refine j_iload C dX9_add_54 rfl 56 rfl ?_
      refine j_iconst (v := b2i false) C dX9_add_56 (by decide) 57 rfl ?_
      refine j_zast C rfl (by omega) (by decide) dX9_add_57 58 rfl ?_
      refine j_aload_n C dX9_add_58 rfl 59 rfl ?_
      refine gf_X9_24 C rfl rfl dX9_add_59 62 rfl ?_
      refine j_iload C dX9_add_62 rfl 64 rfl ?_
      refine j_iconst (v := b2i false) C dX9_add_64 (by decide) 65 rfl ?_
      refine j_zast C rfl (by omega) (by decide) dX9_add_65 66 rfl ?_
      refine j_aload_n C dX9_add_66 rfl 67 rfl ?_
      refine gf_X9_9 C rfl rfl dX9_add_67 70 rfl ?_
      refine j_iconst (v := nI 4) C dX9_add_70 (by decide) 71 rfl ?_
      refine j_iload_n C dX9_add_71 rfl 72 rfl ?_
      refine n_imul C dX9_add_72 73 rfl ?_
      refine j_iconst (v := nI 1) C dX9_add_73 (by decide) 74 rfl ?_
      refine n_iadd C dX9_add_74 75 rfl ?_
      refine j_dup2 C dX9_add_75 rfl rfl 76 rfl ?_
      refine j_iald C rfl (by omega) (by decide) dX9_add_76 77 rfl ?_
      rw [gl_u2_ne (show (1 : Nat) ≠ 2 by decide), hk.1]
      refine j_iconst (v := nI 1) C dX9_add_77 (by decide) 78 rfl ?_
      refine n_iadd C dX9_add_78 79 rfl ?_
      refine j_iast C rfl (by omega) (by decide) dX9_add_79 80 rfl ?_
      refine j_aload_n C dX9_add_80 rfl 81 rfl ?_
      refine j_iload_n C dX9_add_81 rfl 82 rfl ?_
      refine j_ci C (cs_X9_274 C (ct_X9_many (h - 1) (by omega) (by omega)) rfl rfl (by omega) (by omega) (by omega) rfl (Nat.le_of_ble_eq_true rfl) dX9_add_82) 85 rfl ?_
      rintro _ _ ⟨rfl, rfl⟩
      rw [gl_u2_eq, gl_up_eq]
      exact j_iret C hQ (by rw [gl_add, hcl, if_pos ⟨c_5, c_16⟩]) (by omega) (by omega) dX9_add_85
    · refine j_iconst (v := -1) C dX9_add_19 (by decide) 20 rfl ?_
      exact j_iret C hQ (by rw [gl_add, hcl, if_neg (fun q => q.2 c_16)]) (by omega) (by omega) dX9_add_20
/-- keep -/
def gl_keep (I : Nat → Nat → Int32) (L : Nat → Nat → Int64) (B : Nat → Nat → Bool) (lm : Nat) (mn : Nat → Nat) (x i : Int32) : Int32 × gl_Sto := if gl_in x lm = true ∧ gl_in i (mn x.toNatClampNeg) = true ∧ B 4 (400 * x.toNatClampNeg + i.toNatClampNeg) = false then (b2i true, (gl_mL, I, L, gl_u2 B 5 (400 * x.toNatClampNeg + i.toNatClampNeg) true, gl_mR)) else (b2i false, (gl_mL, I, L, B, gl_mR))
set_option maxHeartbeats 4000000 in
set_option maxRecDepth 100000 in
theorem ct_X9_keep {l : Launch} {δ : gl_Del} {I : Nat → Nat → Int32} {L : Nat → Nat → Int64} {B : Nat → Nat → Bool} {lm : Nat} {mn hd ld : Nat → Nat} {sn : Nat → Nat → Nat} {x i : Int32} (h : Nat) (hh : 2 ≤ h) (H : gl_LI I lm mn hd ld sn) : gl_Ct l δ yX9_keep (ws_ yX9_keep cX9_keep 3 ((some FieldType.boolean))) (gl_rm h 0 0) 0 0 [.ref 0, .int x, .int i] (gl_mL, I, L, B, gl_mR) (gl_Qi fun r S => (r, S) = gl_keep I L B lm mn x i) := by
  refine gl_of (by decide) (Nat.le_of_ble_eq_true rfl) rfl ?_
  intro κ C hQ hlκ hδκ hnL hini
  change gl_Cx κ RX9 _ _ _ at C
  have hlm6 : lm ≤ 6 := H.2.1
  refine j_aload_n C dX9_keep_0 rfl 1 rfl ?_
  refine j_iload_n C dX9_keep_1 rfl 2 rfl ?_
  refine j_ci C (cs_X9_270 C (ct_X9_isLog (h - 1) (by omega) H.1) rfl rfl (by omega) (by omega) (by omega) rfl (Nat.le_of_ble_eq_true rfl) dX9_keep_2) 5 rfl ?_
  rintro _ _ ⟨rfl, rfl⟩
  refine b_if_eq C 36 8 dX9_keep_5 (by decide) rfl (fun c_5 => ?_) (fun c_5 => ?_)
  · refine j_iconst (v := b2i false) C dX9_keep_36 (by decide) 37 rfl ?_
    exact j_zret C hQ (by rw [gl_keep, if_neg (fun q => by rw [c_5] at q; cases q.1)]) (by omega) (by omega) dX9_keep_37
  · obtain ⟨lg, hlg, rfl⟩ := (gl_in_iff (by omega)).mp c_5
    have hcl : (nI lg).toNatClampNeg = lg := nI_clamp (by omega)
    have hk := H.2.2 lg hlg
    refine j_iload_n C dX9_keep_8 rfl 9 rfl ?_
    refine j_if_lt C 36 12 dX9_keep_9 (by decide) rfl (fun c_9 => ?_) (fun c_9 => ?_)
    · refine j_iconst (v := b2i false) C dX9_keep_36 (by decide) 37 rfl ?_
      exact j_zret C hQ (by rw [gl_keep, if_neg (fun q => by rw [gl_in_f1 c_9] at q; cases q.2.1)]) (by omega) (by omega) dX9_keep_37
    · obtain ⟨j, hj, rfl⟩ := nI_of c_9
      have hcj : (nI j).toNatClampNeg = j := nI_clamp hj
      refine j_iload_n C dX9_keep_12 rfl 13 rfl ?_
      refine j_aload_n C dX9_keep_13 rfl 14 rfl ?_
      refine j_iload_n C dX9_keep_14 rfl 15 rfl ?_
      refine j_ci C (cs_X9_274 C (ct_X9_many (h - 1) (by omega) (by omega)) rfl rfl (by omega) (by omega) (by omega) rfl (Nat.le_of_ble_eq_true rfl) dX9_keep_15) 18 rfl ?_
      rintro _ _ ⟨rfl, rfl⟩
      rw [hk.1]
      refine n_icmp_ge C 36 21 dX9_keep_18 (by decide) rfl hj (by omega) (fun c_18 => ?_) (fun c_18 => ?_)
      · refine j_iconst (v := b2i false) C dX9_keep_36 (by decide) 37 rfl ?_
        exact j_zret C hQ (by rw [gl_keep, hcl, if_neg (fun q => by rw [gl_in_nI hj (by omega), decide_eq_true_iff] at q; omega)]) (by omega) (by omega) dX9_keep_37
      · refine j_aload_n C dX9_keep_21 rfl 22 rfl ?_
        refine gf_X9_20 C rfl rfl dX9_keep_22 25 rfl ?_
        refine j_sipush (v := nI 400) C dX9_keep_25 (by decide) 28 rfl ?_
        refine j_iload_n C dX9_keep_28 rfl 29 rfl ?_
        refine n_imul C dX9_keep_29 30 rfl ?_
        refine j_iload_n C dX9_keep_30 rfl 31 rfl ?_
        refine n_iadd C dX9_keep_31 32 rfl ?_
        refine j_zald C rfl (by omega) (by decide) dX9_keep_32 33 rfl ?_
        refine b_if_eq C 38 36 dX9_keep_33 (by decide) rfl (fun c_33 => ?_) (fun c_33 => ?_)
        · refine j_aload_n C dX9_keep_38 rfl 39 rfl ?_
          refine gf_X9_24 C rfl rfl dX9_keep_39 42 rfl ?_
          refine j_sipush (v := nI 400) C dX9_keep_42 (by decide) 45 rfl ?_
          refine j_iload_n C dX9_keep_45 rfl 46 rfl ?_
          refine n_imul C dX9_keep_46 47 rfl ?_
          refine j_iload_n C dX9_keep_47 rfl 48 rfl ?_
          refine n_iadd C dX9_keep_48 49 rfl ?_
          refine j_iconst (v := b2i true) C dX9_keep_49 (by decide) 50 rfl ?_
          refine j_zast C rfl (by omega) (by decide) dX9_keep_50 51 rfl ?_
          refine j_iconst (v := b2i true) C dX9_keep_51 (by decide) 52 rfl ?_
          exact j_zret C hQ (by rw [gl_keep, hcl, hcj, if_pos ⟨c_5, by rw [gl_in_nI hj (by omega), decide_eq_true_iff]; exact c_18, c_33⟩]) (by omega) (by omega) dX9_keep_52
        · refine j_iconst (v := b2i false) C dX9_keep_36 (by decide) 37 rfl ?_
          exact j_zret C hQ (by rw [gl_keep, hcl, hcj, if_neg (fun q => by rw [c_33] at q; cases q.2.2)]) (by omega) (by omega) dX9_keep_37
/-- say: a word about a key -/
def gl_say (I : Nat → Nat → Int32) (L : Nat → Nat → Int64) (B : Nat → Nat → Bool) (lm : Nat) (mn hd ld : Nat → Nat) (x ky : Int32) (b : Bool) : Int32 × gl_Sto := if gl_in x lm = true ∧ gl_ff (fun t => I 6 (100 * x.toNatClampNeg + t)) ky (hd x.toNatClampNeg + ld x.toNatClampNeg) 0 = hd x.toNatClampNeg + ld x.toNatClampNeg ∧ hd x.toNatClampNeg + ld x.toNatClampNeg ≠ 100 then (b2i true, (gl_mL, gl_u2 (gl_u2 (gl_u2 I 6 (100 * x.toNatClampNeg + (hd x.toNatClampNeg + ld x.toNatClampNeg)) ky) 7 (100 * x.toNatClampNeg + (hd x.toNatClampNeg + ld x.toNatClampNeg)) (nI (mn x.toNatClampNeg))) 1 (4 * x.toNatClampNeg + (if b = true then 2 else 3)) (nI ((if b = true then hd x.toNatClampNeg else ld x.toNatClampNeg) + 1)), L, gl_u2 B 8 (100 * x.toNatClampNeg + (hd x.toNatClampNeg + ld x.toNatClampNeg)) b, gl_mR)) else (b2i false, (gl_mL, I, L, B, gl_mR))
set_option maxHeartbeats 4000000 in
set_option maxRecDepth 100000 in
theorem ct_X9_say {l : Launch} {δ : gl_Del} {I : Nat → Nat → Int32} {L : Nat → Nat → Int64} {B : Nat → Nat → Bool} {lm : Nat} {mn hd ld : Nat → Nat} {sn : Nat → Nat → Nat} {x ky : Int32} {b : Bool} (h : Nat) (hh : 2 ≤ h) (H : gl_LI I lm mn hd ld sn) : gl_Ct l δ yX9_say (ws_ yX9_say cX9_say 5 ((some FieldType.boolean))) (gl_rm h 0 0) 0 0 [.ref 0, .int x, .int ky, .int (b2i b)] (gl_mL, I, L, B, gl_mR) (gl_Qi fun r S => (r, S) = gl_say I L B lm mn hd ld x ky b) := by
  refine gl_of (by decide) (Nat.le_of_ble_eq_true rfl) rfl ?_
  intro κ C hQ hlκ hδκ hnL hini
  change gl_Cx κ RX9 _ _ _ at C
  have hlm6 : lm ≤ 6 := H.2.1
  refine j_aload_n C dX9_say_0 rfl 1 rfl ?_
  refine j_iload_n C dX9_say_1 rfl 2 rfl ?_
  refine j_ci C (cs_X9_270 C (ct_X9_isLog (h - 1) (by omega) H.1) rfl rfl (by omega) (by omega) (by omega) rfl (Nat.le_of_ble_eq_true rfl) dX9_say_2) 5 rfl ?_
  rintro _ _ ⟨rfl, rfl⟩
  refine b_if_eq C 18 8 dX9_say_5 (by decide) rfl (fun c_5 => ?_) (fun c_5 => ?_)
  · refine j_iconst (v := b2i false) C dX9_say_18 (by decide) 19 rfl ?_
    exact j_zret C hQ (by rw [gl_say, if_neg (fun q => by rw [c_5] at q; cases q.1)]) (by omega) (by omega) dX9_say_19
  · obtain ⟨lg, hlg, rfl⟩ := (gl_in_iff (by omega)).mp c_5
    have hcl : (nI lg).toNatClampNeg = lg := nI_clamp (by omega)
    have hk := H.2.2 lg hlg
    refine j_aload_n C dX9_say_8 rfl 9 rfl ?_
    refine j_iload_n C dX9_say_9 rfl 10 rfl ?_
    refine j_iload_n C dX9_say_10 rfl 11 rfl ?_
    refine j_ci C (cs_X9_220 C (ct_X9_word (n := hd lg + ld lg) (h - 1) (by omega) (by omega) (H.w hlg) hk.2.2.2.2.1) rfl rfl (by omega) (by omega) (by omega) rfl (Nat.le_of_ble_eq_true rfl) dX9_say_11) 14 rfl ?_
    rintro _ _ ⟨rfl, rfl⟩
    refine j_iconst (v := -1) C dX9_say_14 (by decide) 15 rfl ?_
    refine j_icmp_eq C 20 18 dX9_say_15 (by decide) rfl (fun c_15 => ?_) (fun c_15 => ?_)
    · have hnone : gl_ff (fun t => I 6 (100 * lg + t)) ky (hd lg + ld lg) 0 = hd lg + ld lg := by
        have h1 := gl_ff_le (f := fun t => I 6 (100 * lg + t)) (key := ky) (hd lg + ld lg) 0
        rcases Nat.lt_or_ge (gl_ff (fun t => I 6 (100 * lg + t)) ky (hd lg + ld lg) 0) (hd lg + ld lg) with q | q
        · rw [gl_wd, if_pos q] at c_15
          exact absurd c_15 (gl_nm1 (by omega))
        · omega
      refine j_aload_n C dX9_say_20 rfl 21 rfl ?_
      refine gf_X9_9 C rfl rfl dX9_say_21 24 rfl ?_
      refine j_iconst (v := nI 4) C dX9_say_24 (by decide) 25 rfl ?_
      refine j_iload_n C dX9_say_25 rfl 26 rfl ?_
      refine n_imul C dX9_say_26 27 rfl ?_
      refine j_iconst (v := nI 2) C dX9_say_27 (by decide) 28 rfl ?_
      refine n_iadd C dX9_say_28 29 rfl ?_
      refine j_iald C rfl (by omega) (by decide) dX9_say_29 30 rfl ?_
      refine j_aload_n C dX9_say_30 rfl 31 rfl ?_
      refine gf_X9_9 C rfl rfl dX9_say_31 34 rfl ?_
      refine j_iconst (v := nI 4) C dX9_say_34 (by decide) 35 rfl ?_
      refine j_iload_n C dX9_say_35 rfl 36 rfl ?_
      refine n_imul C dX9_say_36 37 rfl ?_
      refine j_iconst (v := nI 3) C dX9_say_37 (by decide) 38 rfl ?_
      refine n_iadd C dX9_say_38 39 rfl ?_
      refine j_iald C rfl (by omega) (by decide) dX9_say_39 40 rfl ?_
      refine j_iadd C dX9_say_40 41 rfl ?_
      rw [H.w hlg]
      refine j_istore C dX9_say_41 (Nat.le_of_ble_eq_true rfl) (by rw [hnL]; decide) rfl 43 rfl ?_
      refine j_iload C dX9_say_43 rfl 45 rfl ?_
      refine j_bipush (v := nI 100) C dX9_say_45 (by decide) 47 rfl ?_
      refine n_icmp_ne C 52 50 dX9_say_47 (by decide) rfl (by omega) (by omega) (fun c_47 => ?_) (fun c_47 => ?_)
      · refine j_aload_n C dX9_say_52 rfl 53 rfl ?_
        refine gf_X9_27 C rfl rfl dX9_say_53 56 rfl ?_
        refine j_bipush (v := nI 100) C dX9_say_56 (by decide) 58 rfl ?_
        refine j_iload_n C dX9_say_58 rfl 59 rfl ?_
        refine n_imul C dX9_say_59 60 rfl ?_
        refine j_iload C dX9_say_60 rfl 62 rfl ?_
        refine n_iadd C dX9_say_62 63 rfl ?_
        refine j_iload_n C dX9_say_63 rfl 64 rfl ?_
        refine j_iast C rfl (by omega) (by decide) dX9_say_64 65 rfl ?_
        refine j_aload_n C dX9_say_65 rfl 66 rfl ?_
        refine gf_X9_30 C rfl rfl dX9_say_66 69 rfl ?_
        refine j_bipush (v := nI 100) C dX9_say_69 (by decide) 71 rfl ?_
        refine j_iload_n C dX9_say_71 rfl 72 rfl ?_
        refine n_imul C dX9_say_72 73 rfl ?_
        refine j_iload C dX9_say_73 rfl 75 rfl ?_
        refine n_iadd C dX9_say_75 76 rfl ?_
        refine j_aload_n C dX9_say_76 rfl 77 rfl ?_
        refine j_iload_n C dX9_say_77 rfl 78 rfl ?_
        refine j_ci C (cs_X9_274 C (ct_X9_many (h - 1) (by omega) (by omega)) rfl rfl (by omega) (by omega) (by omega) rfl (Nat.le_of_ble_eq_true rfl) dX9_say_78) 81 rfl ?_
        rintro _ _ ⟨rfl, rfl⟩
        rw [gl_u2_ne (show (1 : Nat) ≠ 6 by decide), hk.1]
        refine j_iast C rfl (by omega) (by decide) dX9_say_81 82 rfl ?_
        refine j_aload_n C dX9_say_82 rfl 83 rfl ?_
        refine gf_X9_33 C rfl rfl dX9_say_83 86 rfl ?_
        refine j_bipush (v := nI 100) C dX9_say_86 (by decide) 88 rfl ?_
        refine j_iload_n C dX9_say_88 rfl 89 rfl ?_
        refine n_imul C dX9_say_89 90 rfl ?_
        refine j_iload C dX9_say_90 rfl 92 rfl ?_
        refine n_iadd C dX9_say_92 93 rfl ?_
        refine j_iload_n C dX9_say_93 rfl 94 rfl ?_
        refine j_zast C rfl (by omega) (by decide) dX9_say_94 95 rfl ?_
        refine j_aload_n C dX9_say_95 rfl 96 rfl ?_
        refine gf_X9_9 C rfl rfl dX9_say_96 99 rfl ?_
        refine j_iconst (v := nI 4) C dX9_say_99 (by decide) 100 rfl ?_
        refine j_iload_n C dX9_say_100 rfl 101 rfl ?_
        refine n_imul C dX9_say_101 102 rfl ?_
        refine j_iload_n C dX9_say_102 rfl 103 rfl ?_
        refine b_if_eq C 110 106 dX9_say_103 (by decide) rfl (fun c_103 => ?_) (fun c_103 => ?_)
        · refine j_iconst (v := nI 3) C dX9_say_110 (by decide) 111 rfl ?_
          refine n_iadd C dX9_say_111 112 rfl ?_
          refine j_dup2 C dX9_say_112 rfl rfl 113 rfl ?_
          refine j_iald C rfl (by omega) (by decide) dX9_say_113 114 rfl ?_
          rw [gl_u2_ne (show (1 : Nat) ≠ 7 by decide), gl_u2_ne (show (1 : Nat) ≠ 6 by decide), hk.2.2.2.1]
          refine j_iconst (v := nI 1) C dX9_say_114 (by decide) 115 rfl ?_
          refine n_iadd C dX9_say_115 116 rfl ?_
          refine j_iast C rfl (by omega) (by decide) dX9_say_116 117 rfl ?_
          refine j_iconst (v := b2i true) C dX9_say_117 (by decide) 118 rfl ?_
          exact j_zret C hQ (by rw [gl_say, hcl, if_pos ⟨c_5, hnone, c_47⟩, c_103]; rfl) (by omega) (by omega) dX9_say_118
        · refine j_iconst (v := nI 2) C dX9_say_106 (by decide) 107 rfl ?_
          refine j_goto (tgt := 111) C dX9_say_107 (by decide) ?_
          refine n_iadd C dX9_say_111 112 rfl ?_
          refine j_dup2 C dX9_say_112 rfl rfl 113 rfl ?_
          refine j_iald C rfl (by omega) (by decide) dX9_say_113 114 rfl ?_
          rw [gl_u2_ne (show (1 : Nat) ≠ 7 by decide), gl_u2_ne (show (1 : Nat) ≠ 6 by decide), hk.2.2.1]
          refine j_iconst (v := nI 1) C dX9_say_114 (by decide) 115 rfl ?_
          refine n_iadd C dX9_say_115 116 rfl ?_
          refine j_iast C rfl (by omega) (by decide) dX9_say_116 117 rfl ?_
          refine j_iconst (v := b2i true) C dX9_say_117 (by decide) 118 rfl ?_
          exact j_zret C hQ (by rw [gl_say, hcl, if_pos ⟨c_5, hnone, c_47⟩, c_103]; rfl) (by omega) (by omega) dX9_say_118
      · refine j_iconst (v := b2i false) C dX9_say_50 (by decide) 51 rfl ?_
        exact j_zret C hQ (by rw [gl_say, hcl, if_neg (fun q => q.2.2 c_47)]) (by omega) (by omega) dX9_say_51
    · refine j_iconst (v := b2i false) C dX9_say_18 (by decide) 19 rfl ?_
      exact j_zret C hQ (by rw [gl_say, hcl, if_neg (fun q => c_15 (by rw [gl_wd, if_neg (by rw [q.2.1]; exact Nat.lt_irrefl _)]))]) (by omega) (by omega) dX9_say_19
set_option maxHeartbeats 4000000 in
set_option maxRecDepth 100000 in
theorem ct_X9_hide {l : Launch} {δ : gl_Del} {I : Nat → Nat → Int32} {L : Nat → Nat → Int64} {B : Nat → Nat → Bool} {lm : Nat} {mn hd ld : Nat → Nat} {sn : Nat → Nat → Nat} {x ky : Int32} (h : Nat) (hh : 3 ≤ h) (H : gl_LI I lm mn hd ld sn) : gl_Ct l δ yX9_hide (ws_ yX9_hide cX9_hide 3 ((some FieldType.boolean))) (gl_rm h 0 0) 0 0 [.ref 0, .int x, .int ky] (gl_mL, I, L, B, gl_mR) (gl_Qi fun r S => (r, S) = gl_say I L B lm mn hd ld x ky true) := by
  refine gl_of (by decide) (Nat.le_of_ble_eq_true rfl) rfl ?_
  intro κ C hQ hlκ hδκ hnL hini
  change gl_Cx κ RX9 _ _ _ at C
  refine j_aload_n C dX9_hide_0 rfl 1 rfl ?_
  refine j_iload_n C dX9_hide_1 rfl 2 rfl ?_
  refine j_iload_n C dX9_hide_2 rfl 3 rfl ?_
  refine j_iconst (v := b2i true) C dX9_hide_3 (by decide) 4 rfl ?_
  refine j_ci C (cs_X9_281 C (ct_X9_say (b := true) (h - 1) (by omega) H) rfl rfl (by omega) (by omega) (by omega) rfl (Nat.le_of_ble_eq_true rfl) dX9_hide_4) 7 rfl ?_
  intro r S hrs
  obtain ⟨bb, hbb⟩ : ∃ bb, r = b2i bb := by
    have e := congrArg Prod.fst hrs
    revert e
    unfold gl_say
    intro e
    split at e
    · exact ⟨true, e⟩
    · exact ⟨false, e⟩
  subst hbb
  exact j_zret C hQ hrs (by omega) (by omega) dX9_hide_7
set_option maxHeartbeats 4000000 in
set_option maxRecDepth 100000 in
theorem ct_X9_lag {l : Launch} {δ : gl_Del} {I : Nat → Nat → Int32} {L : Nat → Nat → Int64} {B : Nat → Nat → Bool} {lm : Nat} {mn hd ld : Nat → Nat} {sn : Nat → Nat → Nat} {x ky : Int32} (h : Nat) (hh : 3 ≤ h) (H : gl_LI I lm mn hd ld sn) : gl_Ct l δ yX9_lag (ws_ yX9_lag cX9_lag 3 ((some FieldType.boolean))) (gl_rm h 0 0) 0 0 [.ref 0, .int x, .int ky] (gl_mL, I, L, B, gl_mR) (gl_Qi fun r S => (r, S) = gl_say I L B lm mn hd ld x ky false) := by
  refine gl_of (by decide) (Nat.le_of_ble_eq_true rfl) rfl ?_
  intro κ C hQ hlκ hδκ hnL hini
  change gl_Cx κ RX9 _ _ _ at C
  refine j_aload_n C dX9_lag_0 rfl 1 rfl ?_
  refine j_iload_n C dX9_lag_1 rfl 2 rfl ?_
  refine j_iload_n C dX9_lag_2 rfl 3 rfl ?_
  refine j_iconst (v := b2i false) C dX9_lag_3 (by decide) 4 rfl ?_
  refine j_ci C (cs_X9_281 C (ct_X9_say (b := false) (h - 1) (by omega) H) rfl rfl (by omega) (by omega) (by omega) rfl (Nat.le_of_ble_eq_true rfl) dX9_lag_4) 7 rfl ?_
  intro r S hrs
  obtain ⟨bb, hbb⟩ : ∃ bb, r = b2i bb := by
    have e := congrArg Prod.fst hrs
    revert e
    unfold gl_say
    intro e
    split at e
    · exact ⟨true, e⟩
    · exact ⟨false, e⟩
  subst hbb
  exact j_zret C hQ hrs (by omega) (by omega) dX9_lag_7
