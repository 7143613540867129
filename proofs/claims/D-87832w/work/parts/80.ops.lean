/-! MODULE GlassLog, asked: isLog, isCount, isSlot, isReader, open, add, fork, hide, lag, prune, keep, latest (by gen80.py) -/
set_option maxRecDepth 100000
/-- the numbers of a house's logs -/
def gl_gL (I : Nat → Nat → Int32) (h lm : Nat) (mn wn : Nat → Nat) (sn : Nat → Nat → Nat) : Prop := I h 6 = nI lm ∧ lm ≤ 6 ∧ ∀ k, k < lm → I (h + 7 + 19 * k) 9 = nI (mn k) ∧ mn k ≤ 400 ∧ I (h + 7 + 19 * k) 10 = nI (wn k) ∧ wn k ≤ 100 ∧ ∀ w, w < wn k → I (h + 7 + 19 * k + 3) w = nI (sn k w) ∧ sn k w ≤ 400
def gl_gic (lm : Nat) (mn : Nat → Nat) (x n : Int32) : Bool := gl_in x lm && gl_in n (mn x.toNatClampNeg + 1)
theorem gl_gic_iff {lm : Nat} {mn : Nat → Nat} {x n : Int32} (hl : lm ≤ 6) (hm : ∀ k, k < lm → mn k ≤ 400) : gl_gic lm mn x n = true ↔ ∃ lg m, lg < lm ∧ m ≤ mn lg ∧ x = nI lg ∧ n = nI m := by
  unfold gl_gic
  rw [Bool.and_eq_true]
  constructor
  · rintro ⟨h1, h2⟩
    obtain ⟨lg, q1, rfl⟩ := (gl_in_iff (by omega)).mp h1
    rw [nI_clamp (by omega)] at h2
    have := hm lg q1
    obtain ⟨m, q2, rfl⟩ := (gl_in_iff (by omega)).mp h2
    exact ⟨lg, m, q1, by omega, rfl, rfl⟩
  · rintro ⟨lg, m, q1, q2, rfl, rfl⟩
    have := hm lg q1
    rw [nI_clamp (by omega)]
    exact ⟨(gl_in_iff (by omega)).mpr ⟨lg, q1, rfl⟩, (gl_in_iff (by omega)).mpr ⟨m, by omega, rfl⟩⟩
set_option maxHeartbeats 4000000 in
set_option maxRecDepth 100000 in
theorem ct_X0_isLog {l : Launch} {δ : gl_Del} {Λ : gl_Lay} {I : Nat → Nat → Int32} {L : Nat → Nat → Int64} {B : Nat → Nat → Bool} {R : Nat → Nat → Option Nat} {lm : Nat} {mn wn : Nat → Nat} {sn : Nat → Nat → Nat} {x : Int32} (h : Nat) (hh : 2 ≤ h) (hG : gl_GL Λ R) (H : gl_gL I 1 lm mn wn sn) : gl_Ct l δ yX0_isLog (ws_ yX0_isLog cX0_isLog 2 ((some FieldType.boolean))) (gl_rm h 0 0) 0 0 [.ref 0, .int x] (Λ, I, L, B, R) (gl_Qi fun r S => r = b2i (gl_in x lm) ∧ S = (Λ, I, L, B, R)) := by
  refine gl_of (by decide) (Nat.le_of_ble_eq_true rfl) rfl ?_
  intro κ C hQ hlκ hδκ hnL hini
  change gl_Cx κ RX0 _ _ _ at C
  have hl6 := H.2.1
  refine j_iload_n C dX0_isLog_0 rfl 1 rfl ?_
  refine j_i2l C dX0_isLog_1 rfl 2 rfl ?_
  refine j_lconst (v := lN 0) C dX0_isLog_2 (by decide) 3 rfl ?_
  refine j_aload_n C dX0_isLog_3 rfl 4 rfl ?_
  refine gf_X0_12 C hG.o hG.r0 dX0_isLog_4 7 rfl ?_
  refine gf_X0_53 C hG.hs.o dX0_isLog_7 10 rfl ?_
  rw [H.1]
  refine j_iconst (v := nI 1) C dX0_isLog_10 (by decide) 11 rfl ?_
  refine j_isub C dX0_isLog_11 12 rfl ?_
  refine j_i2l C dX0_isLog_12 rfl 13 rfl ?_
  refine j_ci C (cs_X0_57 C (ct_X0_in (h - 1) (by omega)) rfl (by omega) (by omega) (by omega) rfl (Nat.le_of_ble_eq_true rfl) dX0_isLog_13) 16 rfl ?_
  rintro _ _ ⟨rfl, rfl⟩
  rw [gl_il_n (by omega)]
  exact j_zret C hQ ⟨rfl, rfl⟩ (by omega) (by omega) dX0_isLog_16
set_option maxHeartbeats 4000000 in
set_option maxRecDepth 100000 in
theorem ct_X0_isSlot {l : Launch} {δ : gl_Del} {S : gl_Sto} {x : Int32} (h : Nat) (hh : 2 ≤ h)  : gl_Ct l δ yX0_isSlot (ws_ yX0_isSlot cX0_isSlot 1 ((some FieldType.boolean))) (gl_rm h 0 0) 0 0 [.int x] S (gl_Qi fun r S1 => r = b2i (gl_in x 16) ∧ S1 = S) := by
  refine gl_of (by decide) (Nat.le_of_ble_eq_true rfl) rfl ?_
  intro κ C hQ hlκ hδκ hnL hini
  change gl_Cx κ RX0 _ _ _ at C
  refine j_iload_n C dX0_isSlot_0 rfl 1 rfl ?_
  refine j_i2l C dX0_isSlot_1 rfl 2 rfl ?_
  refine j_lconst (v := lN 0) C dX0_isSlot_2 (by decide) 3 rfl ?_
  refine j_ldc2 C q584 dX0_isSlot_3 6 rfl ?_
  rw [show (15 : Int64) = lN 15 from rfl]
  refine j_ci C (cs_X0_57 C (ct_X0_in (h - 1) (by omega)) rfl (by omega) (by omega) (by omega) rfl (Nat.le_of_ble_eq_true rfl) dX0_isSlot_6) 9 rfl ?_
  rintro _ _ ⟨rfl, rfl⟩
  rw [gl_il_c (n := 15) (by decide)]
  exact j_zret C hQ ⟨rfl, rfl⟩ (by omega) (by omega) dX0_isSlot_9
set_option maxHeartbeats 4000000 in
set_option maxRecDepth 100000 in
theorem ct_X0_isReader {l : Launch} {δ : gl_Del} {S : gl_Sto} {x : Int32} (h : Nat) (hh : 2 ≤ h)  : gl_Ct l δ yX0_isReader (ws_ yX0_isReader cX0_isReader 1 ((some FieldType.boolean))) (gl_rm h 0 0) 0 0 [.int x] S (gl_Qi fun r S1 => r = b2i (gl_in x 12) ∧ S1 = S) := by
  refine gl_of (by decide) (Nat.le_of_ble_eq_true rfl) rfl ?_
  intro κ C hQ hlκ hδκ hnL hini
  change gl_Cx κ RX0 _ _ _ at C
  refine j_iload_n C dX0_isReader_0 rfl 1 rfl ?_
  refine j_i2l C dX0_isReader_1 rfl 2 rfl ?_
  refine j_lconst (v := lN 0) C dX0_isReader_2 (by decide) 3 rfl ?_
  refine j_ldc2 C q980 dX0_isReader_3 6 rfl ?_
  rw [show (11 : Int64) = lN 11 from rfl]
  refine j_ci C (cs_X0_57 C (ct_X0_in (h - 1) (by omega)) rfl (by omega) (by omega) (by omega) rfl (Nat.le_of_ble_eq_true rfl) dX0_isReader_6) 9 rfl ?_
  rintro _ _ ⟨rfl, rfl⟩
  rw [gl_il_c (n := 11) (by decide)]
  exact j_zret C hQ ⟨rfl, rfl⟩ (by omega) (by omega) dX0_isReader_9
set_option maxHeartbeats 4000000 in
set_option maxRecDepth 100000 in
theorem ct_X0_isCount {l : Launch} {δ : gl_Del} {Λ : gl_Lay} {I : Nat → Nat → Int32} {L : Nat → Nat → Int64} {B : Nat → Nat → Bool} {R : Nat → Nat → Option Nat} {lm : Nat} {mn wn : Nat → Nat} {sn : Nat → Nat → Nat} {x n : Int32} (h : Nat) (hh : 3 ≤ h) (hG : gl_GL Λ R) (H : gl_gL I 1 lm mn wn sn) : gl_Ct l δ yX0_isCount (ws_ yX0_isCount cX0_isCount 3 ((some FieldType.boolean))) (gl_rm h 0 0) 0 0 [.ref 0, .int x, .int n] (Λ, I, L, B, R) (gl_Qi fun r S => r = b2i (gl_gic lm mn x n) ∧ S = (Λ, I, L, B, R)) := by
  refine gl_of (by decide) (Nat.le_of_ble_eq_true rfl) rfl ?_
  intro κ C hQ hlκ hδκ hnL hini
  change gl_Cx κ RX0 _ _ _ at C
  refine j_aload_n C dX0_isCount_0 rfl 1 rfl ?_
  refine j_iload_n C dX0_isCount_1 rfl 2 rfl ?_
  refine j_ci C (cs_X0_61 C (ct_X0_isLog (h - 1) (by omega) hG H) hG.o rfl (by omega) (by omega) (by omega) rfl (Nat.le_of_ble_eq_true rfl) dX0_isCount_2) 5 rfl ?_
  rintro _ _ ⟨rfl, rfl⟩
  refine b_if_eq C 34 8 dX0_isCount_5 (by decide) rfl (fun c_5 => ?_) (fun c_5 => ?_)
  · refine j_iconst (v := b2i false) C dX0_isCount_34 (by decide) 35 rfl ?_
    exact j_zret C hQ ⟨by rw [gl_gic, c_5]; rfl, rfl⟩ (by omega) (by omega) dX0_isCount_35
  · obtain ⟨lg, hlg, rfl⟩ := (gl_in_iff (by have := H.2.1; omega)).mp c_5
    have hl6 := H.2.1
    have hL := hG.hs.lg lg (by omega)
    obtain ⟨hn9, hn4, hw10, hw1, hsn⟩ := H.2.2 lg hlg
    have hcl : (nI lg).toNatClampNeg = lg := nI_clamp (by omega)
    refine j_iload_n C dX0_isCount_8 rfl 9 rfl ?_
    refine j_i2l C dX0_isCount_9 rfl 10 rfl ?_
    refine j_lconst (v := lN 0) C dX0_isCount_10 (by decide) 11 rfl ?_
    refine j_aload_n C dX0_isCount_11 rfl 12 rfl ?_
    refine gf_X0_12 C hG.o hG.r0 dX0_isCount_12 15 rfl ?_
    refine gf_X0_65 C hG.hs.o hG.hs.r0 dX0_isCount_15 18 rfl ?_
    refine j_iload_n C dX0_isCount_18 rfl 19 rfl ?_
    refine j_aald C (by decide) hG.hs.k1 (by omega) (by decide) dX0_isCount_19 20 rfl ?_
    rw [hG.hs.lr lg (by omega)]
    change gl_J _ _ _ _ _ _ (Value.ref _ :: _)
    refine gf_X0_69 C hL.o dX0_isCount_20 23 rfl ?_
    rw [hn9]
    refine j_i2l C dX0_isCount_23 (nI_l (by omega)) 24 rfl ?_
    refine j_ci C (cs_X0_57 C (ct_X0_in (h - 1) (by omega)) rfl (by omega) (by omega) (by omega) rfl (Nat.le_of_ble_eq_true rfl) dX0_isCount_24) 27 rfl ?_
    rintro _ _ ⟨rfl, rfl⟩
    rw [gl_il_c (by omega)]
    refine b_if_eq C 34 30 dX0_isCount_27 (by decide) rfl (fun c_27 => ?_) (fun c_27 => ?_)
    · refine j_iconst (v := b2i false) C dX0_isCount_34 (by decide) 35 rfl ?_
      exact j_zret C hQ ⟨by rw [gl_gic, c_5, hcl, c_27]; rfl, rfl⟩ (by omega) (by omega) dX0_isCount_35
    · refine j_iconst (v := b2i true) C dX0_isCount_30 (by decide) 31 rfl ?_
      refine j_goto (tgt := 35) C dX0_isCount_31 (by decide) ?_
      exact j_zret C hQ ⟨by rw [gl_gic, c_5, hcl, c_27]; rfl, rfl⟩ (by omega) (by omega) dX0_isCount_35
set_option maxHeartbeats 4000000 in
set_option maxRecDepth 100000 in
theorem ct_X0_open {l : Launch} {δ : gl_Del} {Λ : gl_Lay} {I : Nat → Nat → Int32} {L : Nat → Nat → Int64} {B : Nat → Nat → Bool} {R : Nat → Nat → Option Nat} {lm : Nat} {mn wn : Nat → Nat} {sn : Nat → Nat → Nat} {x : Int32} (h : Nat) (hh : 2 ≤ h) (hG : gl_GL Λ R) (H : gl_gL I 1 lm mn wn sn) : gl_Ct l δ yX0_open (ws_ yX0_open cX0_open 2 ((some FieldType.int))) (gl_rm h 0 0) 0 0 [.ref 0, .int x] (Λ, I, L, B, R) (gl_Qi fun r S => r = (if (gl_in x 4 = true ∧ lm ≠ 6) then nI lm else -1) ∧ S = if (gl_in x 4 = true ∧ lm ≠ 6) then (Λ, gl_u2 (gl_u2 (gl_u2 (gl_u2 I (1 + 7 + 19 * lm) 8 x) (1 + 7 + 19 * lm) 9 (nI 0)) (1 + 7 + 19 * lm) 10 (nI 0)) 1 6 (nI (lm + 1)), L, B, R) else (Λ, I, L, B, R)) := by
  refine gl_of (by decide) (Nat.le_of_ble_eq_true rfl) rfl ?_
  intro κ C hQ hlκ hδκ hnL hini
  change gl_Cx κ RX0 _ _ _ at C
  have hl6 := H.2.1
  refine j_iload_n C dX0_open_0 rfl 1 rfl ?_
  refine j_i2l C dX0_open_1 rfl 2 rfl ?_
  refine j_lconst (v := lN 0) C dX0_open_2 (by decide) 3 rfl ?_
  refine j_ldc2 C q388 dX0_open_3 6 rfl ?_
  rw [show (3 : Int64) = lN 3 from rfl]
  refine j_ci C (cs_X0_57 C (ct_X0_in (h - 1) (by omega)) rfl (by omega) (by omega) (by omega) rfl (Nat.le_of_ble_eq_true rfl) dX0_open_6) 9 rfl ?_
  rintro _ _ ⟨rfl, rfl⟩
  rw [gl_il_c (n := 3) (by decide), show 3 + 1 = 4 from rfl]
  refine b_if_eq C 24 12 dX0_open_9 (by decide) rfl (fun c_9 => ?_) (fun c_9 => ?_)
  · refine j_iconst (v := -1) C dX0_open_24 (by decide) 25 rfl ?_
    exact j_iret C hQ ⟨by rw [if_neg (fun q => by rw [c_9] at q; exact absurd q.1 (by decide))], by rw [if_neg (fun q => by rw [c_9] at q; exact absurd q.1 (by decide))]⟩ (by omega) (by omega) dX0_open_25
  · refine j_aload_n C dX0_open_12 rfl 13 rfl ?_
    refine gf_X0_12 C hG.o hG.r0 dX0_open_13 16 rfl ?_
    refine gf_X0_53 C hG.hs.o dX0_open_16 19 rfl ?_
    rw [H.1]
    refine j_bipush (v := nI 6) C dX0_open_19 (by decide) 21 rfl ?_
    refine n_icmp_ne C 26 24 dX0_open_21 (by decide) rfl (by omega) (by omega) (fun c_21 => ?_) (fun c_21 => ?_)
    · have hL := hG.hs.lg lm (by omega)
      refine j_aload_n C dX0_open_26 rfl 27 rfl ?_
      refine gf_X0_12 C hG.o hG.r0 dX0_open_27 30 rfl ?_
      refine gf_X0_65 C hG.hs.o hG.hs.r0 dX0_open_30 33 rfl ?_
      refine j_aload_n C dX0_open_33 rfl 34 rfl ?_
      refine gf_X0_12 C hG.o hG.r0 dX0_open_34 37 rfl ?_
      refine gf_X0_53 C hG.hs.o dX0_open_37 40 rfl ?_
      rw [H.1]
      refine j_aald C (by decide) hG.hs.k1 (by omega) (by decide) dX0_open_40 41 rfl ?_
      rw [hG.hs.lr lm (by omega)]
      change gl_J _ _ _ _ _ _ (Value.ref _ :: _)
      refine j_iload_n C dX0_open_41 rfl 42 rfl ?_
      refine j_cv C (cs_X0_76 C (ct_X2_begin (h - 1) (by omega) hL) hL.o rfl (by omega) (by omega) (by omega) rfl (Nat.le_of_ble_eq_true rfl) dX0_open_42) 45 rfl ?_
      rintro _ rfl
      refine j_aload_n C dX0_open_45 rfl 46 rfl ?_
      refine gf_X0_12 C hG.o hG.r0 dX0_open_46 49 rfl ?_
      refine j_dup C dX0_open_49 rfl 50 rfl ?_
      refine gf_X0_53 C hG.hs.o dX0_open_50 53 rfl ?_
      rw [gl_u2_ne (show 1 ≠ (1 + 7 + 19 * lm) by omega), gl_u2_ne (show 1 ≠ (1 + 7 + 19 * lm) by omega), gl_u2_ne (show 1 ≠ (1 + 7 + 19 * lm) by omega), H.1]
      refine j_iconst (v := nI 1) C dX0_open_53 (by decide) 54 rfl ?_
      refine n_iadd C dX0_open_54 55 rfl ?_
      refine pf_X0_53 C hG.hs.o dX0_open_55 58 rfl ?_
      refine j_aload_n C dX0_open_58 rfl 59 rfl ?_
      refine gf_X0_12 C hG.o hG.r0 dX0_open_59 62 rfl ?_
      refine gf_X0_53 C hG.hs.o dX0_open_62 65 rfl ?_
      rw [gl_u2_eq, gl_up_eq]
      refine j_iconst (v := nI 1) C dX0_open_65 (by decide) 66 rfl ?_
      refine n_isub C dX0_open_66 (by omega) 67 rfl ?_
      rw [show lm + 1 - 1 = lm by omega]
      exact j_iret C hQ ⟨by rw [if_pos ⟨c_9, c_21⟩], by rw [if_pos ⟨c_9, c_21⟩]⟩ (by omega) (by omega) dX0_open_67
    · refine j_iconst (v := -1) C dX0_open_24 (by decide) 25 rfl ?_
      exact j_iret C hQ ⟨by rw [if_neg (fun q => q.2 c_21)], by rw [if_neg (fun q => q.2 c_21)]⟩ (by omega) (by omega) dX0_open_25
set_option maxHeartbeats 4000000 in
set_option maxRecDepth 100000 in
theorem ct_X0_add {l : Launch} {δ : gl_Del} {Λ : gl_Lay} {I : Nat → Nat → Int32} {L : Nat → Nat → Int64} {B : Nat → Nat → Bool} {R : Nat → Nat → Option Nat} {lm : Nat} {mn wn : Nat → Nat} {sn : Nat → Nat → Nat} {x ky : Int32} {v : Int64} (h : Nat) (hh : 6 ≤ h) (hG : gl_GL Λ R) (H : gl_gL I 1 lm mn wn sn) (hsm : ∀ k, k < lm → gl_sm I (1 + 7 + 19 * k) (I (1 + 7 + 19 * k + 1)) (L (1 + 7 + 19 * k + 4)) (mn k)) : gl_Ct l δ yX0_add (ws_ yX0_add cX0_add 5 ((some FieldType.int))) (gl_rm h 0 0) 0 0 [.ref 0, .int x, .int ky, .long v] (Λ, I, L, B, R) (gl_Qi fun r S => (if gl_in x lm = true ∧ (mn x.toNatClampNeg) ≠ 400 then r = nI ((mn x.toNatClampNeg) + 1) ∧ ∃ I', S = (Λ, I', gl_u2 L ((1 + 7 + 19 * x.toNatClampNeg) + 4) (mn x.toNatClampNeg) v, gl_u2 (gl_u2 B ((1 + 7 + 19 * x.toNatClampNeg) + 5) (mn x.toNatClampNeg) false) ((1 + 7 + 19 * x.toNatClampNeg) + 6) (mn x.toNatClampNeg) false, R) ∧ (∀ c, c ≠ 690 → c ≠ 691 → c ≠ (1 + 7 + 19 * x.toNatClampNeg) → c ≠ (1 + 7 + 19 * x.toNatClampNeg) + 1 → (c < (1 + 7 + 19 * x.toNatClampNeg) + 9 ∨ (1 + 7 + 19 * x.toNatClampNeg) + 19 ≤ c) → I' c = I c) ∧ I' ((1 + 7 + 19 * x.toNatClampNeg) + 1) = va_up (I ((1 + 7 + 19 * x.toNatClampNeg) + 1)) (mn x.toNatClampNeg) ky ∧ I' (1 + 7 + 19 * x.toNatClampNeg) = va_up (I (1 + 7 + 19 * x.toNatClampNeg)) 9 (nI ((mn x.toNatClampNeg) + 1)) ∧ gl_sm I' (1 + 7 + 19 * x.toNatClampNeg) (va_up (I ((1 + 7 + 19 * x.toNatClampNeg) + 1)) (mn x.toNatClampNeg) ky) (va_up (L ((1 + 7 + 19 * x.toNatClampNeg) + 4)) (mn x.toNatClampNeg) v) ((mn x.toNatClampNeg) + 1) else r = -1 ∧ S = (Λ, I, L, B, R))) := by
  refine gl_of (by decide) (Nat.le_of_ble_eq_true rfl) rfl ?_
  intro κ C hQ hlκ hδκ hnL hini
  change gl_Cx κ RX0 _ _ _ at C
  refine j_aload_n C dX0_add_0 rfl 1 rfl ?_
  refine j_iload_n C dX0_add_1 rfl 2 rfl ?_
  refine j_ci C (cs_X0_61 C (ct_X0_isLog (h - 1) (by omega) hG H) hG.o rfl (by omega) (by omega) (by omega) rfl (Nat.le_of_ble_eq_true rfl) dX0_add_2) 5 rfl ?_
  rintro _ _ ⟨rfl, rfl⟩
  refine b_if_eq C 26 8 dX0_add_5 (by decide) rfl (fun c_5 => ?_) (fun c_5 => ?_)
  · refine j_iconst (v := -1) C dX0_add_26 (by decide) 27 rfl ?_
    exact j_iret C hQ (by rw [if_neg (fun q => by rw [c_5] at q; exact absurd q.1 (by decide))]; exact ⟨rfl, rfl⟩) (by omega) (by omega) dX0_add_27
  · obtain ⟨lg, hlg, rfl⟩ := (gl_in_iff (by have := H.2.1; omega)).mp c_5
    have hl6 := H.2.1
    have hL := hG.hs.lg lg (by omega)
    obtain ⟨hn9, hn4, hw10, hw1, hsn⟩ := H.2.2 lg hlg
    have hcl : (nI lg).toNatClampNeg = lg := nI_clamp (by omega)
    refine j_aload_n C dX0_add_8 rfl 9 rfl ?_
    refine gf_X0_12 C hG.o hG.r0 dX0_add_9 12 rfl ?_
    refine gf_X0_65 C hG.hs.o hG.hs.r0 dX0_add_12 15 rfl ?_
    refine j_iload_n C dX0_add_15 rfl 16 rfl ?_
    refine j_aald C (by decide) hG.hs.k1 (by omega) (by decide) dX0_add_16 17 rfl ?_
    rw [hG.hs.lr lg (by omega)]
    change gl_J _ _ _ _ _ _ (Value.ref _ :: _)
    refine gf_X0_69 C hL.o dX0_add_17 20 rfl ?_
    rw [hn9]
    refine j_sipush (v := nI 400) C dX0_add_20 (by decide) 23 rfl ?_
    refine n_icmp_ne C 28 26 dX0_add_23 (by decide) rfl (by omega) (by omega) (fun c_23 => ?_) (fun c_23 => ?_)
    · refine j_aload_n C dX0_add_28 rfl 29 rfl ?_
      refine gf_X0_12 C hG.o hG.r0 dX0_add_29 32 rfl ?_
      refine gf_X0_65 C hG.hs.o hG.hs.r0 dX0_add_32 35 rfl ?_
      refine j_iload_n C dX0_add_35 rfl 36 rfl ?_
      refine j_aald C (by decide) hG.hs.k1 (by omega) (by decide) dX0_add_36 37 rfl ?_
      rw [hG.hs.lr lg (by omega)]
      change gl_J _ _ _ _ _ _ (Value.ref _ :: _)
      refine j_aload_n C dX0_add_37 rfl 38 rfl ?_
      refine gf_X0_19 C hG.o hG.r1 dX0_add_38 41 rfl ?_
      refine j_iload_n C dX0_add_41 rfl 42 rfl ?_
      refine j_lload_n C dX0_add_42 rfl 43 rfl ?_
      refine j_cv C (cs_X0_80 C (ct_X2_add (lo := (1 + 7 + 19 * lg)) (n := mn lg) (h - 1) (by omega) hL hG (by omega) hn9 (by omega) (hsm lg hlg)) hL.o rfl (by omega) (by omega) (by omega) rfl (Nat.le_of_ble_eq_true rfl) dX0_add_43) 46 rfl ?_
      rintro _ ⟨I1, rfl, f1, f2, f3, f4⟩
      refine j_aload_n C dX0_add_46 rfl 47 rfl ?_
      refine gf_X0_12 C hG.o hG.r0 dX0_add_47 50 rfl ?_
      refine gf_X0_65 C hG.hs.o hG.hs.r0 dX0_add_50 53 rfl ?_
      refine j_iload_n C dX0_add_53 rfl 54 rfl ?_
      refine j_aald C (by decide) hG.hs.k1 (by omega) (by decide) dX0_add_54 55 rfl ?_
      rw [hG.hs.lr lg (by omega)]
      change gl_J _ _ _ _ _ _ (Value.ref _ :: _)
      refine gf_X0_69 C hL.o dX0_add_55 58 rfl ?_
      rw [f3, gl_up_eq]
      exact j_iret C hQ (by rw [hcl, if_pos ⟨c_5, c_23⟩]; exact ⟨rfl, I1, rfl, f1, f2, f3, f4⟩) (by omega) (by omega) dX0_add_58
    · refine j_iconst (v := -1) C dX0_add_26 (by decide) 27 rfl ?_
      exact j_iret C hQ (by rw [hcl, if_neg (fun q => q.2 c_23)]; exact ⟨rfl, rfl⟩) (by omega) (by omega) dX0_add_27
set_option maxHeartbeats 4000000 in
set_option maxRecDepth 100000 in
theorem ct_X0_fork {l : Launch} {δ : gl_Del} {Λ : gl_Lay} {I : Nat → Nat → Int32} {L : Nat → Nat → Int64} {B : Nat → Nat → Bool} {R : Nat → Nat → Option Nat} {lm : Nat} {mn wn : Nat → Nat} {sn : Nat → Nat → Nat} {x n : Int32} (h : Nat) (hh : 4 ≤ h) (hG : gl_GL Λ R) (H : gl_gL I 1 lm mn wn sn) : gl_Ct l δ yX0_fork (ws_ yX0_fork cX0_fork 3 ((some FieldType.int))) (gl_rm h 0 0) 0 0 [.ref 0, .int x, .int n] (Λ, I, L, B, R) (gl_Qi fun r S => (if gl_gic lm mn x n = true ∧ lm ≠ 6 then r = nI lm ∧ ∃ I1 L' B', S = (Λ, gl_u2 I1 1 6 (nI (lm + 1)), L', B', R) ∧ gl_lbP I I1 L L' B B' (1 + 7 + 19 * lm) (1 + 7 + 19 * x.toNatClampNeg) n.toNatClampNeg (wn x.toNatClampNeg) (fun k => false || decide (sn x.toNatClampNeg k ≤ n.toNatClampNeg)) else r = -1 ∧ S = (Λ, I, L, B, R))) := by
  refine gl_of (by decide) (Nat.le_of_ble_eq_true rfl) rfl ?_
  intro κ C hQ hlκ hδκ hnL hini
  change gl_Cx κ RX0 _ _ _ at C
  refine j_aload_n C dX0_fork_0 rfl 1 rfl ?_
  refine j_iload_n C dX0_fork_1 rfl 2 rfl ?_
  refine j_iload_n C dX0_fork_2 rfl 3 rfl ?_
  refine j_ci C (cs_X0_84 C (ct_X0_isCount (h - 1) (by omega) hG H) hG.o rfl (by omega) (by omega) (by omega) rfl (Nat.le_of_ble_eq_true rfl) dX0_fork_3) 6 rfl ?_
  rintro _ _ ⟨rfl, rfl⟩
  refine b_if_eq C 21 9 dX0_fork_6 (by decide) rfl (fun c_6 => ?_) (fun c_6 => ?_)
  · refine j_iconst (v := -1) C dX0_fork_21 (by decide) 22 rfl ?_
    exact j_iret C hQ (by rw [if_neg (fun q => by rw [c_6] at q; exact absurd q.1 (by decide))]; exact ⟨rfl, rfl⟩) (by omega) (by omega) dX0_fork_22
  · obtain ⟨lg, m, hlg, hmm, rfl, rfl⟩ := (gl_gic_iff H.2.1 (fun k hk => (H.2.2 k hk).2.1)).mp c_6
    have hl6 := H.2.1
    have hL := hG.hs.lg lg (by omega)
    obtain ⟨hn9, hn4, hw10, hw1, hsn⟩ := H.2.2 lg hlg
    have hcl : (nI lg).toNatClampNeg = lg := nI_clamp (by omega)
    have hcm : (nI m).toNatClampNeg = m := nI_clamp (by omega)
    refine j_aload_n C dX0_fork_9 rfl 10 rfl ?_
    refine gf_X0_12 C hG.o hG.r0 dX0_fork_10 13 rfl ?_
    refine gf_X0_53 C hG.hs.o dX0_fork_13 16 rfl ?_
    rw [H.1]
    refine j_bipush (v := nI 6) C dX0_fork_16 (by decide) 18 rfl ?_
    refine n_icmp_ne C 23 21 dX0_fork_18 (by decide) rfl (by omega) (by omega) (fun c_18 => ?_) (fun c_18 => ?_)
    · have hL2 := hG.hs.lg lm (by omega)
      refine j_aload_n C dX0_fork_23 rfl 24 rfl ?_
      refine gf_X0_12 C hG.o hG.r0 dX0_fork_24 27 rfl ?_
      refine gf_X0_65 C hG.hs.o hG.hs.r0 dX0_fork_27 30 rfl ?_
      refine j_aload_n C dX0_fork_30 rfl 31 rfl ?_
      refine gf_X0_12 C hG.o hG.r0 dX0_fork_31 34 rfl ?_
      refine gf_X0_53 C hG.hs.o dX0_fork_34 37 rfl ?_
      rw [H.1]
      refine j_aald C (by decide) hG.hs.k1 (by omega) (by decide) dX0_fork_37 38 rfl ?_
      rw [hG.hs.lr lm (by omega)]
      change gl_J _ _ _ _ _ _ (Value.ref _ :: _)
      refine j_aload_n C dX0_fork_38 rfl 39 rfl ?_
      refine gf_X0_12 C hG.o hG.r0 dX0_fork_39 42 rfl ?_
      refine gf_X0_65 C hG.hs.o hG.hs.r0 dX0_fork_42 45 rfl ?_
      refine j_iload_n C dX0_fork_45 rfl 46 rfl ?_
      refine j_aald C (by decide) hG.hs.k1 (by omega) (by decide) dX0_fork_46 47 rfl ?_
      rw [hG.hs.lr lg (by omega)]
      change gl_J _ _ _ _ _ _ (Value.ref _ :: _)
      refine j_iload_n C dX0_fork_47 rfl 48 rfl ?_
      refine j_iconst (v := b2i false) C dX0_fork_48 (by decide) 49 rfl ?_
      refine j_cv C (cs_X0_88 C (ct_X2_become (lo := (1 + 7 + 19 * lm)) (ot := (1 + 7 + 19 * lg)) (n := m) (wn := wn lg) (sn := sn lg) (wh := false) (h - 1) (by omega) hL2 hL (by omega) (by omega) hw10 hw1 (fun k hk => (hsn k hk).1) (fun k hk => (hsn k hk).2)) (x := 0) hL2.o rfl (by omega) (by omega) (by omega) rfl (Nat.le_of_ble_eq_true rfl) dX0_fork_49) 52 rfl ?_
      rintro _ ⟨I1, L1, B1, rfl, hlb⟩
      refine j_aload_n C dX0_fork_52 rfl 53 rfl ?_
      refine gf_X0_12 C hG.o hG.r0 dX0_fork_53 56 rfl ?_
      refine j_dup C dX0_fork_56 rfl 57 rfl ?_
      refine gf_X0_53 C hG.hs.o dX0_fork_57 60 rfl ?_
      rw [hlb.1 1 (by omega), H.1]
      refine j_iconst (v := nI 1) C dX0_fork_60 (by decide) 61 rfl ?_
      refine n_iadd C dX0_fork_61 62 rfl ?_
      refine pf_X0_53 C hG.hs.o dX0_fork_62 65 rfl ?_
      refine j_aload_n C dX0_fork_65 rfl 66 rfl ?_
      refine gf_X0_12 C hG.o hG.r0 dX0_fork_66 69 rfl ?_
      refine gf_X0_53 C hG.hs.o dX0_fork_69 72 rfl ?_
      rw [gl_u2_eq, gl_up_eq]
      refine j_iconst (v := nI 1) C dX0_fork_72 (by decide) 73 rfl ?_
      refine n_isub C dX0_fork_73 (by omega) 74 rfl ?_
      rw [show lm + 1 - 1 = lm by omega]
      exact j_iret C hQ (by rw [if_pos ⟨c_6, c_18⟩, hcl, hcm]; exact ⟨rfl, _, _, _, rfl, hlb⟩) (by omega) (by omega) dX0_fork_74
    · refine j_iconst (v := -1) C dX0_fork_21 (by decide) 22 rfl ?_
      exact j_iret C hQ (by rw [if_neg (fun q => q.2 c_18)]; exact ⟨rfl, rfl⟩) (by omega) (by omega) dX0_fork_22
set_option maxHeartbeats 4000000 in
set_option maxRecDepth 100000 in
theorem ct_X0_hide {l : Launch} {δ : gl_Del} {Λ : gl_Lay} {I : Nat → Nat → Int32} {L : Nat → Nat → Int64} {B : Nat → Nat → Bool} {R : Nat → Nat → Option Nat} {lm : Nat} {mn wn : Nat → Nat} {sn : Nat → Nat → Nat} {x ky : Int32} (h : Nat) (hh : 3 ≤ h) (hG : gl_GL Λ R) (H : gl_gL I 1 lm mn wn sn) : gl_Ct l δ yX0_hide (ws_ yX0_hide cX0_hide 3 ((some FieldType.boolean))) (gl_rm h 0 0) 0 0 [.ref 0, .int x, .int ky] (Λ, I, L, B, R) (gl_Qi fun r S => r = b2i (decide (gl_in x lm = true ∧ gl_ff (I ((1 + 7 + 19 * x.toNatClampNeg) + 2)) ky (wn x.toNatClampNeg) 0 = (wn x.toNatClampNeg) ∧ (wn x.toNatClampNeg) ≠ 100)) ∧ S = if (gl_in x lm = true ∧ gl_ff (I ((1 + 7 + 19 * x.toNatClampNeg) + 2)) ky (wn x.toNatClampNeg) 0 = (wn x.toNatClampNeg) ∧ (wn x.toNatClampNeg) ≠ 100) then (Λ, gl_u2 (gl_u2 (gl_u2 I ((1 + 7 + 19 * x.toNatClampNeg) + 2) (wn x.toNatClampNeg) ky) ((1 + 7 + 19 * x.toNatClampNeg) + 3) (wn x.toNatClampNeg) (nI (mn x.toNatClampNeg))) (1 + 7 + 19 * x.toNatClampNeg) 10 (nI ((wn x.toNatClampNeg) + 1)), L, gl_u2 B ((1 + 7 + 19 * x.toNatClampNeg) + 7) (wn x.toNatClampNeg) false, R) else (Λ, I, L, B, R)) := by
  refine gl_of (by decide) (Nat.le_of_ble_eq_true rfl) rfl ?_
  intro κ C hQ hlκ hδκ hnL hini
  change gl_Cx κ RX0 _ _ _ at C
  refine j_aload_n C dX0_hide_0 rfl 1 rfl ?_
  refine j_iload_n C dX0_hide_1 rfl 2 rfl ?_
  refine j_ci C (cs_X0_61 C (ct_X0_isLog (h - 1) (by omega) hG H) hG.o rfl (by omega) (by omega) (by omega) rfl (Nat.le_of_ble_eq_true rfl) dX0_hide_2) 5 rfl ?_
  rintro _ _ ⟨rfl, rfl⟩
  refine b_if_eq C 29 8 dX0_hide_5 (by decide) rfl (fun c_5 => ?_) (fun c_5 => ?_)
  · refine j_iconst (v := b2i false) C dX0_hide_29 (by decide) 30 rfl ?_
    exact j_zret C hQ ⟨by rw [decide_eq_false (fun q => by rw [c_5] at q; exact absurd q.1 (by decide))], by rw [if_neg (fun q => by rw [c_5] at q; exact absurd q.1 (by decide))]⟩ (by omega) (by omega) dX0_hide_30
  · obtain ⟨lg, hlg, rfl⟩ := (gl_in_iff (by have := H.2.1; omega)).mp c_5
    have hl6 := H.2.1
    have hL := hG.hs.lg lg (by omega)
    obtain ⟨hn9, hn4, hw10, hw1, hsn⟩ := H.2.2 lg hlg
    have hcl : (nI lg).toNatClampNeg = lg := nI_clamp (by omega)
    refine j_aload_n C dX0_hide_8 rfl 9 rfl ?_
    refine gf_X0_12 C hG.o hG.r0 dX0_hide_9 12 rfl ?_
    refine gf_X0_65 C hG.hs.o hG.hs.r0 dX0_hide_12 15 rfl ?_
    refine j_iload_n C dX0_hide_15 rfl 16 rfl ?_
    refine j_aald C (by decide) hG.hs.k1 (by omega) (by decide) dX0_hide_16 17 rfl ?_
    rw [hG.hs.lr lg (by omega)]
    change gl_J _ _ _ _ _ _ (Value.ref _ :: _)
    refine j_iload_n C dX0_hide_17 rfl 18 rfl ?_
    refine j_iconst (v := b2i false) C dX0_hide_18 (by decide) 19 rfl ?_
    refine j_ci C (cs_X0_92 C (ct_X2_lies (lo := (1 + 7 + 19 * lg)) (wn := wn lg) (n := mn lg) (b := false) (h - 1) (by omega) hL hw10 hw1 hn9) hL.o rfl (by omega) (by omega) (by omega) rfl (Nat.le_of_ble_eq_true rfl) dX0_hide_19) 22 rfl ?_
    rintro _ _ ⟨rfl, rfl⟩
    by_cases hok : gl_ff (I (1 + 7 + 19 * lg + 2)) ky (wn lg) 0 = wn lg ∧ wn lg ≠ 100
    · rw [if_pos hok, decide_eq_true hok]
      refine b_if_eq C 29 25 dX0_hide_22 (by decide) rfl (fun c_22 => ?_) (fun c_22 => ?_)
      · exact absurd c_22 (by decide)
      · refine j_iconst (v := b2i true) C dX0_hide_25 (by decide) 26 rfl ?_
        refine j_goto (tgt := 30) C dX0_hide_26 (by decide) ?_
        exact j_zret C hQ ⟨by rw [hcl, decide_eq_true ⟨c_5, hok.1, hok.2⟩], by rw [hcl, if_pos ⟨c_5, hok.1, hok.2⟩]⟩ (by omega) (by omega) dX0_hide_30
    · rw [if_neg hok, decide_eq_false hok]
      refine b_if_eq C 29 25 dX0_hide_22 (by decide) rfl (fun c_22 => ?_) (fun c_22 => ?_)
      · refine j_iconst (v := b2i false) C dX0_hide_29 (by decide) 30 rfl ?_
        exact j_zret C hQ ⟨by rw [hcl, decide_eq_false (fun q => hok q.2)], by rw [hcl, if_neg (fun q => hok q.2)]⟩ (by omega) (by omega) dX0_hide_30
      · exact absurd c_22 (by decide)
set_option maxHeartbeats 4000000 in
set_option maxRecDepth 100000 in
theorem ct_X0_lag {l : Launch} {δ : gl_Del} {Λ : gl_Lay} {I : Nat → Nat → Int32} {L : Nat → Nat → Int64} {B : Nat → Nat → Bool} {R : Nat → Nat → Option Nat} {lm : Nat} {mn wn : Nat → Nat} {sn : Nat → Nat → Nat} {x ky : Int32} (h : Nat) (hh : 3 ≤ h) (hG : gl_GL Λ R) (H : gl_gL I 1 lm mn wn sn) : gl_Ct l δ yX0_lag (ws_ yX0_lag cX0_lag 3 ((some FieldType.boolean))) (gl_rm h 0 0) 0 0 [.ref 0, .int x, .int ky] (Λ, I, L, B, R) (gl_Qi fun r S => r = b2i (decide (gl_in x lm = true ∧ gl_ff (I ((1 + 7 + 19 * x.toNatClampNeg) + 2)) ky (wn x.toNatClampNeg) 0 = (wn x.toNatClampNeg) ∧ (wn x.toNatClampNeg) ≠ 100)) ∧ S = if (gl_in x lm = true ∧ gl_ff (I ((1 + 7 + 19 * x.toNatClampNeg) + 2)) ky (wn x.toNatClampNeg) 0 = (wn x.toNatClampNeg) ∧ (wn x.toNatClampNeg) ≠ 100) then (Λ, gl_u2 (gl_u2 (gl_u2 I ((1 + 7 + 19 * x.toNatClampNeg) + 2) (wn x.toNatClampNeg) ky) ((1 + 7 + 19 * x.toNatClampNeg) + 3) (wn x.toNatClampNeg) (nI (mn x.toNatClampNeg))) (1 + 7 + 19 * x.toNatClampNeg) 10 (nI ((wn x.toNatClampNeg) + 1)), L, gl_u2 B ((1 + 7 + 19 * x.toNatClampNeg) + 7) (wn x.toNatClampNeg) true, R) else (Λ, I, L, B, R)) := by
  refine gl_of (by decide) (Nat.le_of_ble_eq_true rfl) rfl ?_
  intro κ C hQ hlκ hδκ hnL hini
  change gl_Cx κ RX0 _ _ _ at C
  refine j_aload_n C dX0_lag_0 rfl 1 rfl ?_
  refine j_iload_n C dX0_lag_1 rfl 2 rfl ?_
  refine j_ci C (cs_X0_61 C (ct_X0_isLog (h - 1) (by omega) hG H) hG.o rfl (by omega) (by omega) (by omega) rfl (Nat.le_of_ble_eq_true rfl) dX0_lag_2) 5 rfl ?_
  rintro _ _ ⟨rfl, rfl⟩
  refine b_if_eq C 29 8 dX0_lag_5 (by decide) rfl (fun c_5 => ?_) (fun c_5 => ?_)
  · refine j_iconst (v := b2i false) C dX0_lag_29 (by decide) 30 rfl ?_
    exact j_zret C hQ ⟨by rw [decide_eq_false (fun q => by rw [c_5] at q; exact absurd q.1 (by decide))], by rw [if_neg (fun q => by rw [c_5] at q; exact absurd q.1 (by decide))]⟩ (by omega) (by omega) dX0_lag_30
  · obtain ⟨lg, hlg, rfl⟩ := (gl_in_iff (by have := H.2.1; omega)).mp c_5
    have hl6 := H.2.1
    have hL := hG.hs.lg lg (by omega)
    obtain ⟨hn9, hn4, hw10, hw1, hsn⟩ := H.2.2 lg hlg
    have hcl : (nI lg).toNatClampNeg = lg := nI_clamp (by omega)
    refine j_aload_n C dX0_lag_8 rfl 9 rfl ?_
    refine gf_X0_12 C hG.o hG.r0 dX0_lag_9 12 rfl ?_
    refine gf_X0_65 C hG.hs.o hG.hs.r0 dX0_lag_12 15 rfl ?_
    refine j_iload_n C dX0_lag_15 rfl 16 rfl ?_
    refine j_aald C (by decide) hG.hs.k1 (by omega) (by decide) dX0_lag_16 17 rfl ?_
    rw [hG.hs.lr lg (by omega)]
    change gl_J _ _ _ _ _ _ (Value.ref _ :: _)
    refine j_iload_n C dX0_lag_17 rfl 18 rfl ?_
    refine j_iconst (v := b2i true) C dX0_lag_18 (by decide) 19 rfl ?_
    refine j_ci C (cs_X0_92 C (ct_X2_lies (lo := (1 + 7 + 19 * lg)) (wn := wn lg) (n := mn lg) (b := true) (h - 1) (by omega) hL hw10 hw1 hn9) hL.o rfl (by omega) (by omega) (by omega) rfl (Nat.le_of_ble_eq_true rfl) dX0_lag_19) 22 rfl ?_
    rintro _ _ ⟨rfl, rfl⟩
    by_cases hok : gl_ff (I (1 + 7 + 19 * lg + 2)) ky (wn lg) 0 = wn lg ∧ wn lg ≠ 100
    · rw [if_pos hok, decide_eq_true hok]
      refine b_if_eq C 29 25 dX0_lag_22 (by decide) rfl (fun c_22 => ?_) (fun c_22 => ?_)
      · exact absurd c_22 (by decide)
      · refine j_iconst (v := b2i true) C dX0_lag_25 (by decide) 26 rfl ?_
        refine j_goto (tgt := 30) C dX0_lag_26 (by decide) ?_
        exact j_zret C hQ ⟨by rw [hcl, decide_eq_true ⟨c_5, hok.1, hok.2⟩], by rw [hcl, if_pos ⟨c_5, hok.1, hok.2⟩]⟩ (by omega) (by omega) dX0_lag_30
    · rw [if_neg hok, decide_eq_false hok]
      refine b_if_eq C 29 25 dX0_lag_22 (by decide) rfl (fun c_22 => ?_) (fun c_22 => ?_)
      · refine j_iconst (v := b2i false) C dX0_lag_29 (by decide) 30 rfl ?_
        exact j_zret C hQ ⟨by rw [hcl, decide_eq_false (fun q => hok q.2)], by rw [hcl, if_neg (fun q => hok q.2)]⟩ (by omega) (by omega) dX0_lag_30
      · exact absurd c_22 (by decide)
set_option maxHeartbeats 4000000 in
set_option maxRecDepth 100000 in
theorem ct_X0_prune {l : Launch} {δ : gl_Del} {Λ : gl_Lay} {I : Nat → Nat → Int32} {L : Nat → Nat → Int64} {B : Nat → Nat → Bool} {R : Nat → Nat → Option Nat} {lm : Nat} {mn wn : Nat → Nat} {sn : Nat → Nat → Nat} {x n : Int32} (h : Nat) (hh : 4 ≤ h) (hG : gl_GL Λ R) (H : gl_gL I 1 lm mn wn sn) : gl_Ct l δ yX0_prune (ws_ yX0_prune cX0_prune 6 ((some FieldType.int))) (gl_rm h 0 0) 0 0 [.ref 0, .int x, .int n] (Λ, I, L, B, R) (gl_Qi fun r S => (if gl_gic lm mn x n = true then r = nI (gl_prc (B ((1 + 7 + 19 * x.toNatClampNeg) + 5)) (B ((1 + 7 + 19 * x.toNatClampNeg) + 6)) 0 n.toNatClampNeg) ∧ S = (Λ, I, L, va_up B ((1 + 7 + 19 * x.toNatClampNeg) + 5) (gl_prw (B ((1 + 7 + 19 * x.toNatClampNeg) + 5)) (B ((1 + 7 + 19 * x.toNatClampNeg) + 6)) 0 n.toNatClampNeg), R) else r = -1 ∧ S = (Λ, I, L, B, R))) := by
  refine gl_of (by decide) (Nat.le_of_ble_eq_true rfl) rfl ?_
  intro κ C hQ hlκ hδκ hnL hini
  change gl_Cx κ RX0 _ _ _ at C
  refine j_aload_n C dX0_prune_0 rfl 1 rfl ?_
  refine j_iload_n C dX0_prune_1 rfl 2 rfl ?_
  refine j_iload_n C dX0_prune_2 rfl 3 rfl ?_
  refine j_ci C (cs_X0_84 C (ct_X0_isCount (h - 1) (by omega) hG H) hG.o rfl (by omega) (by omega) (by omega) rfl (Nat.le_of_ble_eq_true rfl) dX0_prune_3) 6 rfl ?_
  rintro _ _ ⟨rfl, rfl⟩
  refine b_if_ne C 11 9 dX0_prune_6 (by decide) rfl (fun c_6 => ?_) (fun c_6 => ?_)
  · obtain ⟨lg, m, hlg, hmm, rfl, rfl⟩ := (gl_gic_iff H.2.1 (fun k hk => (H.2.2 k hk).2.1)).mp c_6
    have hl6 := H.2.1
    have hL := hG.hs.lg lg (by omega)
    obtain ⟨hn9, hn4, hw10, hw1, hsn⟩ := H.2.2 lg hlg
    have hcl : (nI lg).toNatClampNeg = lg := nI_clamp (by omega)
    have hcm : (nI m).toNatClampNeg = m := nI_clamp (by omega)
    have loop : ∀ k j : Nat, j + k = m → gl_J κ 0 0 (Λ, I, L, va_up B (1 + 7 + 19 * lg + 5) (gl_prw (B (1 + 7 + 19 * lg + 5)) (B (1 + 7 + 19 * lg + 6)) 0 j), R) 27 [some (.ref 0), some (.int (nI lg)), some (.int (nI m)), some (.ref (1 + 7 + 19 * lg)), some (.int (nI (gl_prc (B (1 + 7 + 19 * lg + 5)) (B (1 + 7 + 19 * lg + 6)) 0 j))), some (.int (nI j))] [] := by
      intro k
      induction k with
      | zero =>
        intro j hj
        have hjN : j = m := by omega
        subst hjN
        refine j_iload C dX0_prune_27 rfl 29 rfl ?_
        refine j_iload_n C dX0_prune_29 rfl 30 rfl ?_
        refine n_icmp_ge C 73 33 dX0_prune_30 (by decide) rfl (by omega) (by omega) (fun c_30 => ?_) (fun c_30 => ?_)
        · refine j_iload C dX0_prune_73 rfl 75 rfl ?_
          exact j_iret C hQ (by rw [if_pos c_6, hcl, hcm]; exact ⟨rfl, rfl⟩) (by omega) (by omega) dX0_prune_75
        · exact absurd c_30 (by omega)
      | succ k ih =>
        intro j hj
        refine j_iload C dX0_prune_27 rfl 29 rfl ?_
        refine j_iload_n C dX0_prune_29 rfl 30 rfl ?_
        refine n_icmp_ge C 73 33 dX0_prune_30 (by decide) rfl (by omega) (by omega) (fun c_30 => ?_) (fun c_30 => ?_)
        · exact absurd c_30 (by omega)
        · refine j_aload_n C dX0_prune_33 rfl 34 rfl ?_
          refine gf_X0_96 C hL.o hL.r4 dX0_prune_34 37 rfl ?_
          refine j_iload C dX0_prune_37 rfl 39 rfl ?_
          refine j_zald C hL.k5 (by omega) (by decide) dX0_prune_39 40 rfl ?_
          rw [gl_up_eq, show gl_prw (B (1 + 7 + 19 * lg + 5)) (B (1 + 7 + 19 * lg + 6)) 0 j j = (B (1 + 7 + 19 * lg + 5)) j by have := gl_prw_at (g := (B (1 + 7 + 19 * lg + 5))) (t := (B (1 + 7 + 19 * lg + 6))) (a := 0) (j := j); rw [Nat.zero_add] at this; exact this]
          refine b_if_ne C 67 43 dX0_prune_40 (by decide) rfl (fun c_40 => ?_) (fun c_40 => ?_)
          · refine n_iinc C dX0_prune_67 rfl (by rw [hnL]; decide) rfl 70 rfl ?_
            refine j_goto (tgt := 27) C dX0_prune_70 (by decide) ?_
            have e1 := gl_prw_2 (g := (B (1 + 7 + 19 * lg + 5))) (t := (B (1 + 7 + 19 * lg + 6))) (a := 0) (j := j) (Or.inl (by rw [Nat.zero_add]; exact c_40))
            have e2 : gl_prc (B (1 + 7 + 19 * lg + 5)) (B (1 + 7 + 19 * lg + 6)) 0 (j + 1) = gl_prc (B (1 + 7 + 19 * lg + 5)) (B (1 + 7 + 19 * lg + 6)) 0 j := by rw [gl_prc, Nat.zero_add, c_40]; simp
            have := ih (j + 1) (by omega)
            rw [← e1, e2] at this
            exact this
          · refine j_aload_n C dX0_prune_43 rfl 44 rfl ?_
            refine gf_X0_100 C hL.o hL.r5 dX0_prune_44 47 rfl ?_
            refine j_iload C dX0_prune_47 rfl 49 rfl ?_
            refine j_zald C hL.k6 (by omega) (by decide) dX0_prune_49 50 rfl ?_
            rw [gl_up_ne (show 1 + 7 + 19 * lg + 6 ≠ 1 + 7 + 19 * lg + 5 by omega)]
            refine b_if_eq C 56 53 dX0_prune_50 (by decide) rfl (fun c_50 => ?_) (fun c_50 => ?_)
            · refine j_aload_n C dX0_prune_56 rfl 57 rfl ?_
              refine gf_X0_96 C hL.o hL.r4 dX0_prune_57 60 rfl ?_
              refine j_iload C dX0_prune_60 rfl 62 rfl ?_
              refine j_iconst (v := b2i true) C dX0_prune_62 (by decide) 63 rfl ?_
              refine j_zast C hL.k5 (by omega) (by decide) dX0_prune_63 64 rfl ?_
              rw [gl_u2_up]
              refine n_iinc C dX0_prune_64 rfl (by rw [hnL]; decide) rfl 67 rfl ?_
              refine n_iinc C dX0_prune_67 rfl (by rw [hnL]; decide) rfl 70 rfl ?_
              refine j_goto (tgt := 27) C dX0_prune_70 (by decide) ?_
              have e1 := gl_prw_1 (g := (B (1 + 7 + 19 * lg + 5))) (t := (B (1 + 7 + 19 * lg + 6))) (a := 0) (j := j) (by rw [Nat.zero_add]; exact c_40) (by rw [Nat.zero_add]; exact c_50)
              rw [Nat.zero_add] at e1
              have e2 : gl_prc (B (1 + 7 + 19 * lg + 5)) (B (1 + 7 + 19 * lg + 6)) 0 (j + 1) = gl_prc (B (1 + 7 + 19 * lg + 5)) (B (1 + 7 + 19 * lg + 6)) 0 j + 1 := by rw [gl_prc, Nat.zero_add, c_40, c_50]; simp
              have := ih (j + 1) (by omega)
              rw [← e1, e2] at this
              exact this
            · refine j_goto (tgt := 67) C dX0_prune_53 (by decide) ?_
              refine n_iinc C dX0_prune_67 rfl (by rw [hnL]; decide) rfl 70 rfl ?_
              refine j_goto (tgt := 27) C dX0_prune_70 (by decide) ?_
              have e1 := gl_prw_2 (g := (B (1 + 7 + 19 * lg + 5))) (t := (B (1 + 7 + 19 * lg + 6))) (a := 0) (j := j) (Or.inr (by rw [Nat.zero_add]; exact c_50))
              have e2 : gl_prc (B (1 + 7 + 19 * lg + 5)) (B (1 + 7 + 19 * lg + 6)) 0 (j + 1) = gl_prc (B (1 + 7 + 19 * lg + 5)) (B (1 + 7 + 19 * lg + 6)) 0 j := by rw [gl_prc, Nat.zero_add, c_50]; simp
              have := ih (j + 1) (by omega)
              rw [← e1, e2] at this
              exact this
    refine j_aload_n C dX0_prune_11 rfl 12 rfl ?_
    refine gf_X0_12 C hG.o hG.r0 dX0_prune_12 15 rfl ?_
    refine gf_X0_65 C hG.hs.o hG.hs.r0 dX0_prune_15 18 rfl ?_
    refine j_iload_n C dX0_prune_18 rfl 19 rfl ?_
    refine j_aald C (by decide) hG.hs.k1 (by omega) (by decide) dX0_prune_19 20 rfl ?_
    rw [hG.hs.lr lg (by omega)]
    change gl_J _ _ _ _ _ _ (Value.ref _ :: _)
    refine j_astore_n C dX0_prune_20 (Nat.le_of_ble_eq_true rfl) (by rw [hnL]; decide) rfl 21 rfl ?_
    refine j_iconst (v := nI 0) C dX0_prune_21 (by decide) 22 rfl ?_
    refine j_istore C dX0_prune_22 (Nat.le_of_ble_eq_true rfl) (by rw [hnL]; decide) rfl 24 rfl ?_
    refine j_iconst (v := nI 0) C dX0_prune_24 (by decide) 25 rfl ?_
    refine j_istore C dX0_prune_25 (Nat.le_of_ble_eq_true rfl) (by rw [hnL]; decide) rfl 27 rfl ?_
    have := loop m 0 (by omega)
    rw [show gl_prw (B (1 + 7 + 19 * lg + 5)) (B (1 + 7 + 19 * lg + 6)) 0 0 = (B (1 + 7 + 19 * lg + 5)) by funext k; exact if_neg (by omega), gl_up_self] at this
    exact this
  · refine j_iconst (v := -1) C dX0_prune_9 (by decide) 10 rfl ?_
    exact j_iret C hQ (by rw [if_neg (by rw [c_6]; decide)]; exact ⟨rfl, rfl⟩) (by omega) (by omega) dX0_prune_10
set_option maxHeartbeats 4000000 in
set_option maxRecDepth 100000 in
theorem ct_X0_keep {l : Launch} {δ : gl_Del} {Λ : gl_Lay} {I : Nat → Nat → Int32} {L : Nat → Nat → Int64} {B : Nat → Nat → Bool} {R : Nat → Nat → Option Nat} {lm : Nat} {mn wn : Nat → Nat} {sn : Nat → Nat → Nat} {x i : Int32} (h : Nat) (hh : 3 ≤ h) (hG : gl_GL Λ R) (H : gl_gL I 1 lm mn wn sn) : gl_Ct l δ yX0_keep (ws_ yX0_keep cX0_keep 3 ((some FieldType.boolean))) (gl_rm h 0 0) 0 0 [.ref 0, .int x, .int i] (Λ, I, L, B, R) (gl_Qi fun r S => r = b2i (decide (gl_in x lm = true ∧ gl_in i (mn x.toNatClampNeg) = true ∧ B ((1 + 7 + 19 * x.toNatClampNeg) + 5) i.toNatClampNeg = false)) ∧ S = if (gl_in x lm = true ∧ gl_in i (mn x.toNatClampNeg) = true ∧ B ((1 + 7 + 19 * x.toNatClampNeg) + 5) i.toNatClampNeg = false) then (Λ, I, L, gl_u2 B ((1 + 7 + 19 * x.toNatClampNeg) + 6) i.toNatClampNeg true, R) else (Λ, I, L, B, R)) := by
  refine gl_of (by decide) (Nat.le_of_ble_eq_true rfl) rfl ?_
  intro κ C hQ hlκ hδκ hnL hini
  change gl_Cx κ RX0 _ _ _ at C
  refine j_aload_n C dX0_keep_0 rfl 1 rfl ?_
  refine j_iload_n C dX0_keep_1 rfl 2 rfl ?_
  refine j_ci C (cs_X0_61 C (ct_X0_isLog (h - 1) (by omega) hG H) hG.o rfl (by omega) (by omega) (by omega) rfl (Nat.le_of_ble_eq_true rfl) dX0_keep_2) 5 rfl ?_
  rintro _ _ ⟨rfl, rfl⟩
  refine b_if_eq C 49 8 dX0_keep_5 (by decide) rfl (fun c_5 => ?_) (fun c_5 => ?_)
  · refine j_iconst (v := b2i false) C dX0_keep_49 (by decide) 50 rfl ?_
    exact j_zret C hQ ⟨by rw [decide_eq_false (fun q => by rw [c_5] at q; exact absurd q.1 (by decide))], by rw [if_neg (fun q => by rw [c_5] at q; exact absurd q.1 (by decide))]⟩ (by omega) (by omega) dX0_keep_50
  · obtain ⟨lg, hlg, rfl⟩ := (gl_in_iff (by have := H.2.1; omega)).mp c_5
    have hl6 := H.2.1
    have hL := hG.hs.lg lg (by omega)
    obtain ⟨hn9, hn4, hw10, hw1, hsn⟩ := H.2.2 lg hlg
    have hcl : (nI lg).toNatClampNeg = lg := nI_clamp (by omega)
    refine j_iload_n C dX0_keep_8 rfl 9 rfl ?_
    refine j_i2l C dX0_keep_9 rfl 10 rfl ?_
    refine j_lconst (v := lN 0) C dX0_keep_10 (by decide) 11 rfl ?_
    refine j_aload_n C dX0_keep_11 rfl 12 rfl ?_
    refine gf_X0_12 C hG.o hG.r0 dX0_keep_12 15 rfl ?_
    refine gf_X0_65 C hG.hs.o hG.hs.r0 dX0_keep_15 18 rfl ?_
    refine j_iload_n C dX0_keep_18 rfl 19 rfl ?_
    refine j_aald C (by decide) hG.hs.k1 (by omega) (by decide) dX0_keep_19 20 rfl ?_
    rw [hG.hs.lr lg (by omega)]
    change gl_J _ _ _ _ _ _ (Value.ref _ :: _)
    refine gf_X0_69 C hL.o dX0_keep_20 23 rfl ?_
    rw [hn9]
    refine j_iconst (v := nI 1) C dX0_keep_23 (by decide) 24 rfl ?_
    refine j_isub C dX0_keep_24 25 rfl ?_
    refine j_i2l C dX0_keep_25 rfl 26 rfl ?_
    refine j_ci C (cs_X0_57 C (ct_X0_in (h - 1) (by omega)) rfl (by omega) (by omega) (by omega) rfl (Nat.le_of_ble_eq_true rfl) dX0_keep_26) 29 rfl ?_
    rintro _ _ ⟨rfl, rfl⟩
    rw [gl_il_n (by omega)]
    refine b_if_eq C 49 32 dX0_keep_29 (by decide) rfl (fun c_29 => ?_) (fun c_29 => ?_)
    · refine j_iconst (v := b2i false) C dX0_keep_49 (by decide) 50 rfl ?_
      exact j_zret C hQ ⟨by rw [decide_eq_false (fun q => by rw [hcl, c_29] at q; exact absurd q.2.1 (by decide))], by rw [if_neg (fun q => by rw [hcl, c_29] at q; exact absurd q.2.1 (by decide))]⟩ (by omega) (by omega) dX0_keep_50
    · obtain ⟨j, hj, rfl⟩ := (gl_in_iff (by omega)).mp c_29
      have hcj : (nI j).toNatClampNeg = j := nI_clamp (by omega)
      refine j_aload_n C dX0_keep_32 rfl 33 rfl ?_
      refine gf_X0_12 C hG.o hG.r0 dX0_keep_33 36 rfl ?_
      refine gf_X0_65 C hG.hs.o hG.hs.r0 dX0_keep_36 39 rfl ?_
      refine j_iload_n C dX0_keep_39 rfl 40 rfl ?_
      refine j_aald C (by decide) hG.hs.k1 (by omega) (by decide) dX0_keep_40 41 rfl ?_
      rw [hG.hs.lr lg (by omega)]
      change gl_J _ _ _ _ _ _ (Value.ref _ :: _)
      refine gf_X0_96 C hL.o hL.r4 dX0_keep_41 44 rfl ?_
      refine j_iload_n C dX0_keep_44 rfl 45 rfl ?_
      refine j_zald C hL.k5 (by omega) (by decide) dX0_keep_45 46 rfl ?_
      refine b_if_eq C 51 49 dX0_keep_46 (by decide) rfl (fun c_46 => ?_) (fun c_46 => ?_)
      · refine j_aload_n C dX0_keep_51 rfl 52 rfl ?_
        refine gf_X0_12 C hG.o hG.r0 dX0_keep_52 55 rfl ?_
        refine gf_X0_65 C hG.hs.o hG.hs.r0 dX0_keep_55 58 rfl ?_
        refine j_iload_n C dX0_keep_58 rfl 59 rfl ?_
        refine j_aald C (by decide) hG.hs.k1 (by omega) (by decide) dX0_keep_59 60 rfl ?_
        rw [hG.hs.lr lg (by omega)]
        change gl_J _ _ _ _ _ _ (Value.ref _ :: _)
        refine gf_X0_100 C hL.o hL.r5 dX0_keep_60 63 rfl ?_
        refine j_iload_n C dX0_keep_63 rfl 64 rfl ?_
        refine j_iconst (v := b2i true) C dX0_keep_64 (by decide) 65 rfl ?_
        refine j_zast C hL.k6 (by omega) (by decide) dX0_keep_65 66 rfl ?_
        refine j_iconst (v := b2i true) C dX0_keep_66 (by decide) 67 rfl ?_
        exact j_zret C hQ ⟨by rw [hcl, hcj, decide_eq_true ⟨c_5, c_29, c_46⟩], by rw [hcl, hcj, if_pos ⟨c_5, c_29, c_46⟩]⟩ (by omega) (by omega) dX0_keep_67
      · refine j_iconst (v := b2i false) C dX0_keep_49 (by decide) 50 rfl ?_
        exact j_zret C hQ ⟨by rw [decide_eq_false (fun q => by rw [hcl, hcj, c_46] at q; exact absurd q.2.2 (by decide))], by rw [if_neg (fun q => by rw [hcl, hcj, c_46] at q; exact absurd q.2.2 (by decide))]⟩ (by omega) (by omega) dX0_keep_50
set_option maxHeartbeats 4000000 in
set_option maxRecDepth 100000 in
theorem ct_X0_latest {l : Launch} {δ : gl_Del} {Λ : gl_Lay} {I : Nat → Nat → Int32} {L : Nat → Nat → Int64} {B : Nat → Nat → Bool} {R : Nat → Nat → Option Nat} {lm : Nat} {mn wn : Nat → Nat} {sn : Nat → Nat → Nat} {x n ky : Int32} (h : Nat) (hh : 4 ≤ h) (hG : gl_GL Λ R) (H : gl_gL I 1 lm mn wn sn) : gl_Ct l δ yX0_latest (ws_ yX0_latest cX0_latest 4 ((some FieldType.int))) (gl_rm h 0 0) 0 0 [.ref 0, .int x, .int n, .int ky] (Λ, I, L, B, R) (gl_Qi fun r S => r = (if gl_gic lm mn x n = true then gl_lat (I ((1 + 7 + 19 * x.toNatClampNeg) + 1)) (I ((1 + 7 + 19 * x.toNatClampNeg) + 2)) (sn x.toNatClampNeg) (B ((1 + 7 + 19 * x.toNatClampNeg) + 7)) (wn x.toNatClampNeg) n.toNatClampNeg ky else -1) ∧ S = (Λ, I, L, B, R)) := by
  refine gl_of (by decide) (Nat.le_of_ble_eq_true rfl) rfl ?_
  intro κ C hQ hlκ hδκ hnL hini
  change gl_Cx κ RX0 _ _ _ at C
  refine j_aload_n C dX0_latest_0 rfl 1 rfl ?_
  refine j_iload_n C dX0_latest_1 rfl 2 rfl ?_
  refine j_iload_n C dX0_latest_2 rfl 3 rfl ?_
  refine j_ci C (cs_X0_84 C (ct_X0_isCount (h - 1) (by omega) hG H) hG.o rfl (by omega) (by omega) (by omega) rfl (Nat.le_of_ble_eq_true rfl) dX0_latest_3) 6 rfl ?_
  rintro _ _ ⟨rfl, rfl⟩
  refine b_if_eq C 26 9 dX0_latest_6 (by decide) rfl (fun c_6 => ?_) (fun c_6 => ?_)
  · refine j_iconst (v := -1) C dX0_latest_26 (by decide) 27 rfl ?_
    exact j_iret C hQ ⟨by rw [if_neg (by rw [c_6]; decide)], rfl⟩ (by omega) (by omega) dX0_latest_27
  · obtain ⟨lg, m, hlg, hmm, rfl, rfl⟩ := (gl_gic_iff H.2.1 (fun k hk => (H.2.2 k hk).2.1)).mp c_6
    have hl6 := H.2.1
    have hL := hG.hs.lg lg (by omega)
    obtain ⟨hn9, hn4, hw10, hw1, hsn⟩ := H.2.2 lg hlg
    have hcl : (nI lg).toNatClampNeg = lg := nI_clamp (by omega)
    have hcm : (nI m).toNatClampNeg = m := nI_clamp (by omega)
    refine j_aload_n C dX0_latest_9 rfl 10 rfl ?_
    refine gf_X0_12 C hG.o hG.r0 dX0_latest_10 13 rfl ?_
    refine gf_X0_65 C hG.hs.o hG.hs.r0 dX0_latest_13 16 rfl ?_
    refine j_iload_n C dX0_latest_16 rfl 17 rfl ?_
    refine j_aald C (by decide) hG.hs.k1 (by omega) (by decide) dX0_latest_17 18 rfl ?_
    rw [hG.hs.lr lg (by omega)]
    change gl_J _ _ _ _ _ _ (Value.ref _ :: _)
    refine j_iload_n C dX0_latest_18 rfl 19 rfl ?_
    refine j_iload_n C dX0_latest_19 rfl 20 rfl ?_
    refine j_ci C (cs_X0_117 C (ct_X2_latest (lo := (1 + 7 + 19 * lg)) (wn := wn lg) (n := m) (sn := sn lg) (h - 1) (by omega) hL hw10 hw1 (fun w hw => (hsn w hw).1) (fun w hw => (hsn w hw).2) (by omega)) hL.o rfl (by omega) (by omega) (by omega) rfl (Nat.le_of_ble_eq_true rfl) dX0_latest_20) 23 rfl ?_
    rintro _ _ ⟨rfl, rfl⟩
    refine j_goto (tgt := 27) C dX0_latest_23 (by decide) ?_
    exact j_iret C hQ ⟨by rw [if_pos c_6, hcl, hcm], rfl⟩ (by omega) (by omega) dX0_latest_27
