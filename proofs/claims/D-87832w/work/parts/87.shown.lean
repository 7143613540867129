/-! MODULE GlassLog, proofs shown: within, span, grown, held, absent (by gen87.py) -/
set_option maxRecDepth 100000
set_option maxHeartbeats 4000000 in
set_option maxRecDepth 100000 in
theorem ct_X0_within {l : Launch} {δ : gl_Del} {N : Nat} {sh : Nat → Nat × Nat} {I : Nat → Nat → Int32} {L : Nat → Nat → Int64} {B : Nat → Nat → Bool} {R : Nat → Nat → Option Nat} {lm : Nat} {mn wn : Nat → Nat} {sn : Nat → Nat → Nat} {x y n i : Int32} (h : Nat) (hh : 5 ≤ h) (hG : gl_GL (N, sh) R) (hN : 707 ≤ N) (H : gl_gL I 1 lm mn wn sn) (hsm : ∀ k, k < lm → gl_sm I (1 + 7 + 19 * k) (fun i => I (1 + 7 + 19 * k + 1) i) (fun i => L (1 + 7 + 19 * k + 4) i) (mn k)) : gl_Ct l δ yX0_within (ws_ yX0_within cX0_within 5 ((some FieldType.int))) (gl_rm h 4 391) 4 391 [.ref 0, .int x, .int y, .int n, .int i] ((N, sh), I, L, B, R) (gl_Qi fun r S => if (gl_in x 16 = true ∧ gl_gic lm mn y n = true ∧ gl_in i n.toNatClampNeg = true ∧ B ((1 + 7 + 19 * y.toNatClampNeg) + 5) i.toNatClampNeg = false) then r = nI (gl_rws (fun i => I ((1 + 7 + 19 * y.toNatClampNeg) + 1) i) (fun i => L ((1 + 7 + 19 * y.toNatClampNeg) + 4) i) 0 i.toNatClampNeg ++ gl_rws (fun i => I ((1 + 7 + 19 * y.toNatClampNeg) + 1) i) (fun i => L ((1 + 7 + 19 * y.toNatClampNeg) + 4) i) (i.toNatClampNeg + 1) n.toNatClampNeg).length ∧ ∃ N' sh' I' L' B' R', S = ((N', sh'), I', L', B', R') ∧ gl_np x.toNatClampNeg N N' sh sh' I I' L L' B B' R R' 11 (gl_v8 (nI n.toNatClampNeg) (nI i.toNatClampNeg) (nI 0) (nI (gl_rws (fun i => I ((1 + 7 + 19 * y.toNatClampNeg) + 1) i) (fun i => L ((1 + 7 + 19 * y.toNatClampNeg) + 4) i) 0 i.toNatClampNeg ++ gl_rws (fun i => I ((1 + 7 + 19 * y.toNatClampNeg) + 1) i) (fun i => L ((1 + 7 + 19 * y.toNatClampNeg) + 4) i) (i.toNatClampNeg + 1) n.toNatClampNeg).length) 0 0 0) (gl_rws (fun i => I ((1 + 7 + 19 * y.toNatClampNeg) + 1) i) (fun i => L ((1 + 7 + 19 * y.toNatClampNeg) + 4) i) 0 i.toNatClampNeg ++ gl_rws (fun i => I ((1 + 7 + 19 * y.toNatClampNeg) + 1) i) (fun i => L ((1 + 7 + 19 * y.toNatClampNeg) + 4) i) (i.toNatClampNeg + 1) n.toNatClampNeg) (i.toNatClampNeg + 1 - i.toNatClampNeg) (fun t => I ((1 + 7 + 19 * y.toNatClampNeg) + 1) (i.toNatClampNeg + t)) (fun t => L ((1 + 7 + 19 * y.toNatClampNeg) + 4) (i.toNatClampNeg + t)) else r = -1 ∧ S = ((N, sh), I, L, B, R)) := by
  refine gl_of (by decide) (Nat.le_of_ble_eq_true rfl) rfl ?_
  intro κ C hQ hlκ hδκ hnL hini
  change gl_Cx κ RX0 _ _ _ at C
  refine j_iload_n C dX0_within_0 rfl 1 rfl ?_
  refine j_ci C (cs_X0_224 C (ct_X0_isSlot (h - 1) (by omega)) rfl (by omega) (by omega) (by omega) rfl (Nat.le_of_ble_eq_true rfl) dX0_within_1) 4 rfl ?_
  rintro _ _ ⟨rfl, rfl⟩
  refine b_if_eq C 48 7 dX0_within_4 (by decide) rfl (fun c_4 => ?_) (fun c_4 => ?_)
  · refine j_iconst (v := -1) C dX0_within_48 (by decide) 49 rfl ?_
    exact j_iret C hQ (by rw [if_neg (fun q => by rw [c_4] at q; exact absurd q.1 (by decide))]; exact ⟨rfl, rfl⟩) (by omega) (by omega) dX0_within_49
  · refine j_aload_n C dX0_within_7 rfl 8 rfl ?_
    refine j_iload_n C dX0_within_8 rfl 9 rfl ?_
    refine j_iload_n C dX0_within_9 rfl 10 rfl ?_
    refine j_ci C (cs_X0_84 C (ct_X0_isCount (h - 1) (by omega) hG H) hG.o rfl (by omega) (by omega) (by omega) rfl (Nat.le_of_ble_eq_true rfl) dX0_within_10) 13 rfl ?_
    rintro _ _ ⟨rfl, rfl⟩
    refine b_if_eq C 48 16 dX0_within_13 (by decide) rfl (fun c_13 => ?_) (fun c_13 => ?_)
    · refine j_iconst (v := -1) C dX0_within_48 (by decide) 49 rfl ?_
      exact j_iret C hQ (by rw [if_neg (fun q => by rw [c_13] at q; exact absurd q.2.1 (by decide))]; exact ⟨rfl, rfl⟩) (by omega) (by omega) dX0_within_49
    · obtain ⟨lg, m, hlg, hmm, rfl, rfl⟩ := (gl_gic_iff H.2.1 (fun k hk => (H.2.2 k hk).2.1)).mp c_13
      have hl6 := H.2.1
      have hL := hG.hs.lg lg (by omega)
      obtain ⟨hn9, hn4, hw10, hw1, hsn⟩ := H.2.2 lg hlg
      have hcl : (nI lg).toNatClampNeg = lg := nI_clamp (by omega)
      have hcm : (nI m).toNatClampNeg = m := nI_clamp (by omega)
      obtain ⟨s, hs, rfl⟩ := (gl_in_iff (by decide)).mp c_4
      have hcs : (nI s).toNatClampNeg = s := nI_clamp (by omega)
      refine j_iload C dX0_within_16 rfl 18 rfl ?_
      refine j_i2l C dX0_within_18 rfl 19 rfl ?_
      refine j_lconst (v := lN 0) C dX0_within_19 (by decide) 20 rfl ?_
      refine j_iload_n C dX0_within_20 rfl 21 rfl ?_
      refine j_iconst (v := nI 1) C dX0_within_21 (by decide) 22 rfl ?_
      refine j_isub C dX0_within_22 23 rfl ?_
      refine j_i2l C dX0_within_23 rfl 24 rfl ?_
      refine j_ci C (cs_X0_57 C (ct_X0_in (h - 1) (by omega)) rfl (by omega) (by omega) (by omega) rfl (Nat.le_of_ble_eq_true rfl) dX0_within_24) 27 rfl ?_
      rintro _ _ ⟨rfl, rfl⟩
      rw [gl_il_n (by omega)]
      refine b_if_eq C 48 30 dX0_within_27 (by decide) rfl (fun c_27 => ?_) (fun c_27 => ?_)
      · refine j_iconst (v := -1) C dX0_within_48 (by decide) 49 rfl ?_
        exact j_iret C hQ (by rw [if_neg (fun q => by rw [hcm, c_27] at q; exact absurd q.2.2.1 (by decide))]; exact ⟨rfl, rfl⟩) (by omega) (by omega) dX0_within_49
      · obtain ⟨e, he, rfl⟩ := (gl_in_iff (by omega)).mp c_27
        have hci : (nI e).toNatClampNeg = e := nI_clamp (by omega)
        refine j_aload_n C dX0_within_30 rfl 31 rfl ?_
        refine gf_X0_12 C hG.o hG.r0 dX0_within_31 34 rfl ?_
        refine gf_X0_65 C hG.hs.o hG.hs.r0 dX0_within_34 37 rfl ?_
        refine j_iload_n C dX0_within_37 rfl 38 rfl ?_
        refine j_aald C (by decide) hG.hs.k1 (by omega) (by decide) dX0_within_38 39 rfl ?_
        rw [hG.hs.lr lg (by omega)]
        change gl_J _ _ _ _ _ _ (Value.ref _ :: _)
        refine gf_X0_96 C hL.o hL.r4 dX0_within_39 42 rfl ?_
        refine j_iload C dX0_within_42 rfl 44 rfl ?_
        refine j_zald C hL.k5 (by omega) (by decide) dX0_within_44 45 rfl ?_
        refine b_if_eq C 50 48 dX0_within_45 (by decide) rfl (fun c_45 => ?_) (fun c_45 => ?_)
        · have hG1 : gl_GL (N + 1, (va_up sh N (19, 0))) (va_up R N (fun _ => none)) := hG.new hN
          have hL1 : gl_LL (N + 1, (va_up sh N (19, 0))) (va_up R N (fun _ => none)) (1 + 7 + 19 * lg) := hL.of_eq (fun c q1 q2 => gl_up_ne (by omega)) (fun c j q1 q2 => by rw [gl_up_ne (by omega)])
          have hsm1 := gl_sm_fr (I' := (va_up I N (fun _ => 0))) (hsm lg hlg) (by omega) (fun r hr => gl_up_ne (by omega))
          have hc1 := gl_bls_len (b := e) (n := e - 0) (a := 0) (by omega) (Nat.zero_le _)
          have hc2 := gl_bls_len (b := m) (n := m - (e + 1)) (a := (e + 1)) (by omega) (by omega)
          refine j_aload_n C dX0_within_50 rfl 51 rfl ?_
          refine j_iload_n C dX0_within_51 rfl 52 rfl ?_
          refine nw_X0_227 C (by omega) (by omega) dX0_within_52 55 rfl ?_
          refine j_dup C dX0_within_55 rfl 56 rfl ?_
          refine j_cv C (cs_X0_229 C (ct_X12_new (h - 1) (by omega)) rfl (by omega) (by omega) (by omega) rfl (Nat.le_of_ble_eq_true rfl) dX0_within_56) 59 rfl ?_
          rintro _ rfl
          refine j_aload_n C dX0_within_59 rfl 60 rfl ?_
          refine gf_X0_12 C hG1.o hG1.r0 dX0_within_60 63 rfl ?_
          refine gf_X0_65 C hG1.hs.o hG1.hs.r0 dX0_within_63 66 rfl ?_
          refine j_iload_n C dX0_within_66 rfl 67 rfl ?_
          refine j_aald C (by decide) hG1.hs.k1 (by omega) (by decide) dX0_within_67 68 rfl ?_
          rw [hG1.hs.lr lg (by omega)]
          change gl_J _ _ _ _ _ _ (Value.ref _ :: _)
          refine j_iload_n C dX0_within_68 rfl 69 rfl ?_
          refine j_iload C dX0_within_69 rfl 71 rfl ?_
          refine j_iload C dX0_within_71 rfl 73 rfl ?_
          refine j_iconst (v := nI 1) C dX0_within_73 (by decide) 74 rfl ?_
          refine n_iadd C dX0_within_74 75 rfl ?_
          refine j_iconst (v := nI 0) C dX0_within_75 (by decide) 76 rfl ?_
          refine j_ci C (cs_X0_230 C (ct_X0_spans_11 (N := N + 1) (K := fun i => I ((1 + 7 + 19 * lg) + 1) i) (V := fun i => L ((1 + 7 + 19 * lg) + 4) i) (s := s) (p := N) (lo := (1 + 7 + 19 * lg)) (nl := mn lg) (n := m) (a := e) (b := e + 1) (x2 := nI 0) (h - 1) (by omega) hG1 (by omega) hs gl_up_eq (by omega) hN hL1 (by omega) hsm1 (by omega) hn4 (by omega) (by omega)) hG1.o rfl (by omega) (by omega) (by omega) rfl (Nat.le_of_ble_eq_true rfl) dX0_within_76) 79 rfl ?_
          rintro _ _ ⟨rfl, sh', I', L', B', R', rfl, f1, f2, f3, f4⟩
          have hpf := f3
          simp only [gl_up_ne (show (1 + 7 + 19 * lg) + 1 ≠ N by omega), gl_up_ne (show (1 + 7 + 19 * lg) + 4 ≠ N by omega)] at hpf
          exact j_iret C hQ (by rw [if_pos ⟨c_4, c_13, by rw [hcm]; exact c_27, by rw [hcl, hci]; exact c_45⟩, hcs, hcl, hcm, hci]; exact ⟨rfl, _, _, _, _, _, _, rfl, ⟨by omega, fun c hc => ⟨by rw [(f1 c (by omega)).1, gl_up_ne (by omega)], by rw [(f1 c (by omega)).2.1, gl_up_ne (by omega)], by rw [(f1 c (by omega)).2.2.1, gl_up_ne (by omega)], fun q1 => by rw [(f1 c (by omega)).2.2.2.1 (by omega) q1, gl_up_ne (by omega)], fun q1 => by rw [(f1 c (by omega)).2.2.2.2 (by omega) (by omega), gl_up_ne (by omega)]⟩, N, _, _, _, ⟨by omega, by omega, by omega, by omega, fun _ => ⟨by omega, by omega, by omega, by omega⟩⟩, f2, hpf, f4⟩⟩) (by omega) (by omega) dX0_within_79
        · refine j_iconst (v := -1) C dX0_within_48 (by decide) 49 rfl ?_
          exact j_iret C hQ (by rw [if_neg (fun q => by rw [hcl, hci, c_45] at q; exact absurd q.2.2.2 (by decide))]; exact ⟨rfl, rfl⟩) (by omega) (by omega) dX0_within_49
theorem gl_il_0 {x y : Int32} : gl_il x.toInt64 (lN 0) y.toInt64 = decide (¬ x < 0 ∧ ¬ y < x) := by
  rw [show lN 0 = (0 : Int32).toInt64 from rfl, gl_il_i]
theorem gl_2 {a b : Int32} (h : ¬ a < 0 ∧ ¬ b < a) : ∃ i j, i ≤ j ∧ j < 2 ^ 31 ∧ a = nI i ∧ b = nI j := by
  obtain ⟨i, hi, rfl⟩ := nI_of h.1
  have hb : ¬ b < 0 := fun q => h.2 (by
    rw [Int32.lt_iff_toInt_lt] at q ⊢
    rw [nI_toInt hi]
    have : (0 : Int32).toInt = 0 := rfl
    omega)
  obtain ⟨j, hj, rfl⟩ := nI_of hb
  have := h.2
  rw [nI_ltI hj hi] at this
  exact ⟨i, j, by omega, hj, rfl, rfl⟩
theorem gl_2' {b : Int32} {i n : Nat} (hn : n < 2 ^ 30) (h2 : gl_in b (n + 1) = true) (h3 : gl_in (nI i) (b.toNatClampNeg + 1) = true) (hi : i < 2 ^ 31) : ¬ (nI i : Int32) < 0 ∧ ¬ b < nI i := by
  obtain ⟨j, hj, rfl⟩ := (gl_in_iff (by omega)).mp h2
  rw [nI_clamp (by omega), gl_in_nI hi (by omega), decide_eq_true_iff] at h3
  exact ⟨nI_pos hi, fun q => by have := (nI_ltI (by omega) hi).mp q; omega⟩
theorem gl_in_pos {x : Int32} {n : Nat} (h : gl_in x n = true) : ¬ x < 0 := (of_decide_eq_true h).1
theorem gl_no26 {a b : Int32} {n : Nat} (hn : n < 2 ^ 30) (hc : decide (¬ a < 0 ∧ ¬ b < a) = false) (h2 : gl_in b (n + 1) = true) (h3 : gl_in a (b.toNatClampNeg + 1) = true) : False := by
  obtain ⟨i, hi, rfl⟩ := nI_of (gl_in_pos h3)
  exact (of_decide_eq_false hc) (gl_2' hn h2 h3 hi)
set_option maxHeartbeats 4000000 in
set_option maxRecDepth 100000 in
theorem ct_X0_span {l : Launch} {δ : gl_Del} {N : Nat} {sh : Nat → Nat × Nat} {I : Nat → Nat → Int32} {L : Nat → Nat → Int64} {B : Nat → Nat → Bool} {R : Nat → Nat → Option Nat} {lm : Nat} {mn wn : Nat → Nat} {sn : Nat → Nat → Nat} {x y n a b : Int32} (h : Nat) (hh : 5 ≤ h) (hG : gl_GL (N, sh) R) (hN : 707 ≤ N) (H : gl_gL I 1 lm mn wn sn) (hsm : ∀ k, k < lm → gl_sm I (1 + 7 + 19 * k) (fun i => I (1 + 7 + 19 * k + 1) i) (fun i => L (1 + 7 + 19 * k + 4) i) (mn k)) : gl_Ct l δ yX0_span (ws_ yX0_span cX0_span 6 ((some FieldType.int))) (gl_rm h 4 391) 4 391 [.ref 0, .int x, .int y, .int n, .int a, .int b] ((N, sh), I, L, B, R) (gl_Qi fun r S => if (gl_in x 16 = true ∧ gl_gic lm mn y n = true ∧ gl_in b (n.toNatClampNeg + 1) = true ∧ gl_in a (b.toNatClampNeg + 1) = true ∧ b.toNatClampNeg - a.toNatClampNeg ≤ 40 ∧ gl_hg (B ((1 + 7 + 19 * y.toNatClampNeg) + 5)) a.toNatClampNeg (b.toNatClampNeg - a.toNatClampNeg) = false) then r = nI (gl_rws (fun i => I ((1 + 7 + 19 * y.toNatClampNeg) + 1) i) (fun i => L ((1 + 7 + 19 * y.toNatClampNeg) + 4) i) 0 a.toNatClampNeg ++ gl_rws (fun i => I ((1 + 7 + 19 * y.toNatClampNeg) + 1) i) (fun i => L ((1 + 7 + 19 * y.toNatClampNeg) + 4) i) b.toNatClampNeg n.toNatClampNeg).length ∧ ∃ N' sh' I' L' B' R', S = ((N', sh'), I', L', B', R') ∧ gl_np x.toNatClampNeg N N' sh sh' I I' L L' B B' R R' 10 (gl_v8 (nI n.toNatClampNeg) (nI a.toNatClampNeg) (nI b.toNatClampNeg) (nI (gl_rws (fun i => I ((1 + 7 + 19 * y.toNatClampNeg) + 1) i) (fun i => L ((1 + 7 + 19 * y.toNatClampNeg) + 4) i) 0 a.toNatClampNeg ++ gl_rws (fun i => I ((1 + 7 + 19 * y.toNatClampNeg) + 1) i) (fun i => L ((1 + 7 + 19 * y.toNatClampNeg) + 4) i) b.toNatClampNeg n.toNatClampNeg).length) 0 0 0) (gl_rws (fun i => I ((1 + 7 + 19 * y.toNatClampNeg) + 1) i) (fun i => L ((1 + 7 + 19 * y.toNatClampNeg) + 4) i) 0 a.toNatClampNeg ++ gl_rws (fun i => I ((1 + 7 + 19 * y.toNatClampNeg) + 1) i) (fun i => L ((1 + 7 + 19 * y.toNatClampNeg) + 4) i) b.toNatClampNeg n.toNatClampNeg) (b.toNatClampNeg - a.toNatClampNeg) (fun t => I ((1 + 7 + 19 * y.toNatClampNeg) + 1) (a.toNatClampNeg + t)) (fun t => L ((1 + 7 + 19 * y.toNatClampNeg) + 4) (a.toNatClampNeg + t)) else r = -1 ∧ S = ((N, sh), I, L, B, R)) := by
  refine gl_of (by decide) (Nat.le_of_ble_eq_true rfl) rfl ?_
  intro κ C hQ hlκ hδκ hnL hini
  change gl_Cx κ RX0 _ _ _ at C
  refine j_iload_n C dX0_span_0 rfl 1 rfl ?_
  refine j_ci C (cs_X0_224 C (ct_X0_isSlot (h - 1) (by omega)) rfl (by omega) (by omega) (by omega) rfl (Nat.le_of_ble_eq_true rfl) dX0_span_1) 4 rfl ?_
  rintro _ _ ⟨rfl, rfl⟩
  refine b_if_eq C 64 7 dX0_span_4 (by decide) rfl (fun c_4 => ?_) (fun c_4 => ?_)
  · refine j_iconst (v := -1) C dX0_span_64 (by decide) 65 rfl ?_
    exact j_iret C hQ (by rw [if_neg (fun q => by rw [c_4] at q; exact absurd q.1 (by decide))]; exact ⟨rfl, rfl⟩) (by omega) (by omega) dX0_span_65
  · refine j_aload_n C dX0_span_7 rfl 8 rfl ?_
    refine j_iload_n C dX0_span_8 rfl 9 rfl ?_
    refine j_iload_n C dX0_span_9 rfl 10 rfl ?_
    refine j_ci C (cs_X0_84 C (ct_X0_isCount (h - 1) (by omega) hG H) hG.o rfl (by omega) (by omega) (by omega) rfl (Nat.le_of_ble_eq_true rfl) dX0_span_10) 13 rfl ?_
    rintro _ _ ⟨rfl, rfl⟩
    refine b_if_eq C 64 16 dX0_span_13 (by decide) rfl (fun c_13 => ?_) (fun c_13 => ?_)
    · refine j_iconst (v := -1) C dX0_span_64 (by decide) 65 rfl ?_
      exact j_iret C hQ (by rw [if_neg (fun q => by rw [c_13] at q; exact absurd q.2.1 (by decide))]; exact ⟨rfl, rfl⟩) (by omega) (by omega) dX0_span_65
    · obtain ⟨lg, m, hlg, hmm, rfl, rfl⟩ := (gl_gic_iff H.2.1 (fun k hk => (H.2.2 k hk).2.1)).mp c_13
      have hl6 := H.2.1
      have hL := hG.hs.lg lg (by omega)
      obtain ⟨hn9, hn4, hw10, hw1, hsn⟩ := H.2.2 lg hlg
      have hcl : (nI lg).toNatClampNeg = lg := nI_clamp (by omega)
      have hcm : (nI m).toNatClampNeg = m := nI_clamp (by omega)
      obtain ⟨s, hs, rfl⟩ := (gl_in_iff (by decide)).mp c_4
      have hcs : (nI s).toNatClampNeg = s := nI_clamp (by omega)
      refine j_iload C dX0_span_16 rfl 18 rfl ?_
      refine j_i2l C dX0_span_18 rfl 19 rfl ?_
      refine j_lconst (v := lN 0) C dX0_span_19 (by decide) 20 rfl ?_
      refine j_iload C dX0_span_20 rfl 22 rfl ?_
      refine j_i2l C dX0_span_22 rfl 23 rfl ?_
      refine j_ci C (cs_X0_57 C (ct_X0_in (h - 1) (by omega)) rfl (by omega) (by omega) (by omega) rfl (Nat.le_of_ble_eq_true rfl) dX0_span_23) 26 rfl ?_
      rintro _ _ ⟨rfl, rfl⟩
      rw [gl_il_0]
      refine b_if_eq C 64 29 dX0_span_26 (by decide) rfl (fun c_26 => ?_) (fun c_26 => ?_)
      · refine j_iconst (v := -1) C dX0_span_64 (by decide) 65 rfl ?_
        exact j_iret C hQ (by rw [if_neg (fun q => gl_no26 (n := m) (by omega) c_26 (by have := q.2.2.1; rw [hcm] at this; exact this) q.2.2.2.1)]; exact ⟨rfl, rfl⟩) (by omega) (by omega) dX0_span_65
      · obtain ⟨a0, b0, hab, hb31, rfl, rfl⟩ := gl_2 (of_decide_eq_true c_26)
        have hca : (nI a0).toNatClampNeg = a0 := nI_clamp (by omega)
        have hcb : (nI b0).toNatClampNeg = b0 := nI_clamp (by omega)
        refine j_iload C dX0_span_29 rfl 31 rfl ?_
        refine j_iload_n C dX0_span_31 rfl 32 rfl ?_
        refine n_icmp_gt C 64 35 dX0_span_32 (by decide) rfl (by omega) (by omega) (fun c_32 => ?_) (fun c_32 => ?_)
        · refine j_iconst (v := -1) C dX0_span_64 (by decide) 65 rfl ?_
          exact j_iret C hQ (by rw [if_neg (fun q => by have z := q.2.2.1; rw [hcm, gl_in_nI hb31 (by omega), decide_eq_true_iff] at z; omega)]; exact ⟨rfl, rfl⟩) (by omega) (by omega) dX0_span_65
        · refine j_iload C dX0_span_35 rfl 37 rfl ?_
          refine j_iload C dX0_span_37 rfl 39 rfl ?_
          refine n_isub C dX0_span_39 (by omega) 40 rfl ?_
          refine j_bipush (v := nI 40) C dX0_span_40 (by decide) 42 rfl ?_
          refine n_icmp_gt C 64 45 dX0_span_42 (by decide) rfl (by omega) (by omega) (fun c_42 => ?_) (fun c_42 => ?_)
          · refine j_iconst (v := -1) C dX0_span_64 (by decide) 65 rfl ?_
            exact j_iret C hQ (by rw [if_neg (fun q => by have z := q.2.2.2.2.1; rw [hca, hcb] at z; omega)]; exact ⟨rfl, rfl⟩) (by omega) (by omega) dX0_span_65
          · refine j_aload_n C dX0_span_45 rfl 46 rfl ?_
            refine gf_X0_12 C hG.o hG.r0 dX0_span_46 49 rfl ?_
            refine gf_X0_65 C hG.hs.o hG.hs.r0 dX0_span_49 52 rfl ?_
            refine j_iload_n C dX0_span_52 rfl 53 rfl ?_
            refine j_aald C (by decide) hG.hs.k1 (by omega) (by decide) dX0_span_53 54 rfl ?_
            rw [hG.hs.lr lg (by omega)]
            change gl_J _ _ _ _ _ _ (Value.ref _ :: _)
            refine j_iload C dX0_span_54 rfl 56 rfl ?_
            refine j_iload C dX0_span_56 rfl 58 rfl ?_
            rw [show nI b0 = nI (a0 + (b0 - a0)) by rw [show a0 + (b0 - a0) = b0 by omega]]
            refine j_ci C (cs_X0_266 C (ct_X2_hasGone (lo := (1 + 7 + 19 * lg)) (a := a0) (c := b0 - a0) (h - 1) (by omega) hL (by omega)) hL.o rfl (by omega) (by omega) (by omega) rfl (Nat.le_of_ble_eq_true rfl) dX0_span_58) 61 rfl ?_
            rintro _ _ ⟨rfl, rfl⟩
            refine b_if_eq C 66 64 dX0_span_61 (by decide) rfl (fun c_61 => ?_) (fun c_61 => ?_)
            · rw [show a0 + (b0 - a0) = b0 by omega]
              have hG1 : gl_GL (N + 1, (va_up sh N (18, 0))) (va_up R N (fun _ => none)) := hG.new hN
              have hL1 : gl_LL (N + 1, (va_up sh N (18, 0))) (va_up R N (fun _ => none)) (1 + 7 + 19 * lg) := hL.of_eq (fun c q1 q2 => gl_up_ne (by omega)) (fun c j q1 q2 => by rw [gl_up_ne (by omega)])
              have hsm1 := gl_sm_fr (I' := (va_up I N (fun _ => 0))) (hsm lg hlg) (by omega) (fun r hr => gl_up_ne (by omega))
              have hc1 := gl_bls_len (b := a0) (n := a0 - 0) (a := 0) (by omega) (Nat.zero_le _)
              have hc2 := gl_bls_len (b := m) (n := m - b0) (a := b0) (by omega) (by omega)
              refine j_aload_n C dX0_span_66 rfl 67 rfl ?_
              refine j_iload_n C dX0_span_67 rfl 68 rfl ?_
              refine nw_X0_206 C (by omega) (by omega) dX0_span_68 71 rfl ?_
              refine j_dup C dX0_span_71 rfl 72 rfl ?_
              refine j_cv C (cs_X0_269 C (ct_X11_new (h - 1) (by omega)) rfl (by omega) (by omega) (by omega) rfl (Nat.le_of_ble_eq_true rfl) dX0_span_72) 75 rfl ?_
              rintro _ rfl
              refine j_aload_n C dX0_span_75 rfl 76 rfl ?_
              refine gf_X0_12 C hG1.o hG1.r0 dX0_span_76 79 rfl ?_
              refine gf_X0_65 C hG1.hs.o hG1.hs.r0 dX0_span_79 82 rfl ?_
              refine j_iload_n C dX0_span_82 rfl 83 rfl ?_
              refine j_aald C (by decide) hG1.hs.k1 (by omega) (by decide) dX0_span_83 84 rfl ?_
              rw [hG1.hs.lr lg (by omega)]
              change gl_J _ _ _ _ _ _ (Value.ref _ :: _)
              refine j_iload_n C dX0_span_84 rfl 85 rfl ?_
              refine j_iload C dX0_span_85 rfl 87 rfl ?_
              refine j_iload C dX0_span_87 rfl 89 rfl ?_
              refine j_iload C dX0_span_89 rfl 91 rfl ?_
              refine j_ci C (cs_X0_230 C (ct_X0_spans_10 (N := N + 1) (K := fun i => I ((1 + 7 + 19 * lg) + 1) i) (V := fun i => L ((1 + 7 + 19 * lg) + 4) i) (s := s) (p := N) (lo := (1 + 7 + 19 * lg)) (nl := mn lg) (n := m) (a := a0) (b := b0) (x2 := nI b0) (h - 1) (by omega) hG1 (by omega) hs gl_up_eq (by omega) hN hL1 (by omega) hsm1 (by omega) hn4 (by omega) (by omega)) hG1.o rfl (by omega) (by omega) (by omega) rfl (Nat.le_of_ble_eq_true rfl) dX0_span_91) 94 rfl ?_
              rintro _ _ ⟨rfl, sh', I', L', B', R', rfl, f1, f2, f3, f4⟩
              have hpf := f3
              simp only [gl_up_ne (show (1 + 7 + 19 * lg) + 1 ≠ N by omega), gl_up_ne (show (1 + 7 + 19 * lg) + 4 ≠ N by omega)] at hpf
              exact j_iret C hQ (by rw [if_pos ⟨c_4, c_13, by rw [hcm, gl_in_nI hb31 (by omega)]; exact decide_eq_true (by omega), by rw [hcb, gl_in_nI (by omega) (by omega)]; exact decide_eq_true (by omega), by rw [hca, hcb]; omega, by rw [hcl, hca, hcb]; exact c_61⟩, hcs, hcl, hcm, hca, hcb]; exact ⟨rfl, _, _, _, _, _, _, rfl, ⟨by omega, fun c hc => ⟨by rw [(f1 c (by omega)).1, gl_up_ne (by omega)], by rw [(f1 c (by omega)).2.1, gl_up_ne (by omega)], by rw [(f1 c (by omega)).2.2.1, gl_up_ne (by omega)], fun q1 => by rw [(f1 c (by omega)).2.2.2.1 (by omega) q1, gl_up_ne (by omega)], fun q1 => by rw [(f1 c (by omega)).2.2.2.2 (by omega) (by omega), gl_up_ne (by omega)]⟩, N, _, _, _, ⟨by omega, by omega, by omega, by omega, fun _ => ⟨by omega, by omega, by omega, by omega⟩⟩, f2, hpf, f4⟩⟩) (by omega) (by omega) dX0_span_94
            · refine j_iconst (v := -1) C dX0_span_64 (by decide) 65 rfl ?_
              exact j_iret C hQ (by rw [if_neg (fun q => by have z := q.2.2.2.2.2; rw [hcl, hca, hcb, c_61] at z; exact absurd z (by decide))]; exact ⟨rfl, rfl⟩) (by omega) (by omega) dX0_span_65
set_option maxHeartbeats 4000000 in
set_option maxRecDepth 100000 in
theorem ct_X0_grown {l : Launch} {δ : gl_Del} {N : Nat} {sh : Nat → Nat × Nat} {I : Nat → Nat → Int32} {L : Nat → Nat → Int64} {B : Nat → Nat → Bool} {R : Nat → Nat → Option Nat} {lm : Nat} {mn wn : Nat → Nat} {sn : Nat → Nat → Nat} {x y m0 n : Int32} (h : Nat) (hh : 4 ≤ h) (hG : gl_GL (N, sh) R) (hN : 707 ≤ N) (H : gl_gL I 1 lm mn wn sn) (hsm : ∀ k, k < lm → gl_sm I (1 + 7 + 19 * k) (fun i => I (1 + 7 + 19 * k + 1) i) (fun i => L (1 + 7 + 19 * k + 4) i) (mn k)) : gl_Ct l δ yX0_grown (ws_ yX0_grown cX0_grown 6 ((some FieldType.int))) (gl_rm h 2 309) 2 309 [.ref 0, .int x, .int y, .int m0, .int n] ((N, sh), I, L, B, R) (gl_Qi fun r S => if (gl_in x 16 = true ∧ gl_gic lm mn y n = true ∧ gl_in m0 (n.toNatClampNeg + 1) = true) then r = nI (gl_rws (fun i => I ((1 + 7 + 19 * y.toNatClampNeg) + 1) i) (fun i => L ((1 + 7 + 19 * y.toNatClampNeg) + 4) i) 0 m0.toNatClampNeg ++ gl_rws (fun i => I ((1 + 7 + 19 * y.toNatClampNeg) + 1) i) (fun i => L ((1 + 7 + 19 * y.toNatClampNeg) + 4) i) m0.toNatClampNeg n.toNatClampNeg).length ∧ ∃ N' sh' I' L' B' R', S = ((N', sh'), I', L', B', R') ∧ gl_np x.toNatClampNeg N N' sh sh' I I' L L' B B' R R' 12 (gl_v8 (nI n.toNatClampNeg) (nI m0.toNatClampNeg) (nI 0) (nI (gl_rws (fun i => I ((1 + 7 + 19 * y.toNatClampNeg) + 1) i) (fun i => L ((1 + 7 + 19 * y.toNatClampNeg) + 4) i) 0 m0.toNatClampNeg ++ gl_rws (fun i => I ((1 + 7 + 19 * y.toNatClampNeg) + 1) i) (fun i => L ((1 + 7 + 19 * y.toNatClampNeg) + 4) i) m0.toNatClampNeg n.toNatClampNeg).length) 0 0 0) (gl_rws (fun i => I ((1 + 7 + 19 * y.toNatClampNeg) + 1) i) (fun i => L ((1 + 7 + 19 * y.toNatClampNeg) + 4) i) 0 m0.toNatClampNeg ++ gl_rws (fun i => I ((1 + 7 + 19 * y.toNatClampNeg) + 1) i) (fun i => L ((1 + 7 + 19 * y.toNatClampNeg) + 4) i) m0.toNatClampNeg n.toNatClampNeg) 0 (fun _ => 0) (fun _ => 0) else r = -1 ∧ S = ((N, sh), I, L, B, R)) := by
  refine gl_of (by decide) (Nat.le_of_ble_eq_true rfl) rfl ?_
  intro κ C hQ hlκ hδκ hnL hini
  change gl_Cx κ RX0 _ _ _ at C
  refine j_iload_n C dX0_grown_0 rfl 1 rfl ?_
  refine j_ci C (cs_X0_224 C (ct_X0_isSlot (h - 1) (by omega)) rfl (by omega) (by omega) (by omega) rfl (Nat.le_of_ble_eq_true rfl) dX0_grown_1) 4 rfl ?_
  rintro _ _ ⟨rfl, rfl⟩
  refine b_if_eq C 29 7 dX0_grown_4 (by decide) rfl (fun c_4 => ?_) (fun c_4 => ?_)
  · refine j_iconst (v := -1) C dX0_grown_29 (by decide) 30 rfl ?_
    exact j_iret C hQ (by rw [if_neg (fun q => by rw [c_4] at q; exact absurd q.1 (by decide))]; exact ⟨rfl, rfl⟩) (by omega) (by omega) dX0_grown_30
  · refine j_aload_n C dX0_grown_7 rfl 8 rfl ?_
    refine j_iload_n C dX0_grown_8 rfl 9 rfl ?_
    refine j_iload C dX0_grown_9 rfl 11 rfl ?_
    refine j_ci C (cs_X0_84 C (ct_X0_isCount (h - 1) (by omega) hG H) hG.o rfl (by omega) (by omega) (by omega) rfl (Nat.le_of_ble_eq_true rfl) dX0_grown_11) 14 rfl ?_
    rintro _ _ ⟨rfl, rfl⟩
    refine b_if_eq C 29 17 dX0_grown_14 (by decide) rfl (fun c_14 => ?_) (fun c_14 => ?_)
    · refine j_iconst (v := -1) C dX0_grown_29 (by decide) 30 rfl ?_
      exact j_iret C hQ (by rw [if_neg (fun q => by rw [c_14] at q; exact absurd q.2.1 (by decide))]; exact ⟨rfl, rfl⟩) (by omega) (by omega) dX0_grown_30
    · obtain ⟨lg, m, hlg, hmm, rfl, rfl⟩ := (gl_gic_iff H.2.1 (fun k hk => (H.2.2 k hk).2.1)).mp c_14
      have hl6 := H.2.1
      have hL := hG.hs.lg lg (by omega)
      obtain ⟨hn9, hn4, hw10, hw1, hsn⟩ := H.2.2 lg hlg
      have hcl : (nI lg).toNatClampNeg = lg := nI_clamp (by omega)
      have hcm : (nI m).toNatClampNeg = m := nI_clamp (by omega)
      obtain ⟨s, hs, rfl⟩ := (gl_in_iff (by decide)).mp c_4
      have hcs : (nI s).toNatClampNeg = s := nI_clamp (by omega)
      refine j_iload_n C dX0_grown_17 rfl 18 rfl ?_
      refine j_i2l C dX0_grown_18 rfl 19 rfl ?_
      refine j_lconst (v := lN 0) C dX0_grown_19 (by decide) 20 rfl ?_
      refine j_iload C dX0_grown_20 rfl 22 rfl ?_
      refine j_i2l C dX0_grown_22 (nI_l (by omega)) 23 rfl ?_
      refine j_ci C (cs_X0_57 C (ct_X0_in (h - 1) (by omega)) rfl (by omega) (by omega) (by omega) rfl (Nat.le_of_ble_eq_true rfl) dX0_grown_23) 26 rfl ?_
      rintro _ _ ⟨rfl, rfl⟩
      rw [gl_il_c (by omega)]
      refine b_if_ne C 31 29 dX0_grown_26 (by decide) rfl (fun c_26 => ?_) (fun c_26 => ?_)
      · obtain ⟨e, he, rfl⟩ := (gl_in_iff (by omega)).mp c_26
        have hci : (nI e).toNatClampNeg = e := nI_clamp (by omega)
        refine j_aload_n C dX0_grown_31 rfl 32 rfl ?_
        refine gf_X0_12 C hG.o hG.r0 dX0_grown_32 35 rfl ?_
        refine gf_X0_65 C hG.hs.o hG.hs.r0 dX0_grown_35 38 rfl ?_
        refine j_iload_n C dX0_grown_38 rfl 39 rfl ?_
        refine j_aald C (by decide) hG.hs.k1 (by omega) (by decide) dX0_grown_39 40 rfl ?_
        rw [hG.hs.lr lg (by omega)]
        change gl_J _ _ _ _ _ _ (Value.ref _ :: _)
        refine j_astore C dX0_grown_40 (Nat.le_of_ble_eq_true rfl) (by rw [hnL]; decide) rfl 42 rfl ?_
        have hG1 : gl_GL (N + 1, (va_up sh N (20, 0))) (va_up R N (fun _ => none)) := hG.new hN
        have hL1 : gl_LL (N + 1, (va_up sh N (20, 0))) (va_up R N (fun _ => none)) (1 + 7 + 19 * lg) := hL.of_eq (fun c q1 q2 => gl_up_ne (by omega)) (fun c j q1 q2 => by rw [gl_up_ne (by omega)])
        have hsm1 := gl_sm_fr (I' := (va_up I N (fun _ => 0))) (hsm lg hlg) (by omega) (fun r hr => gl_up_ne (by omega))
        have hc1 := gl_bls_len (b := e) (n := e - 0) (a := 0) (by omega) (Nat.zero_le _)
        have hc2 := gl_bls_len (b := m) (n := m - e) (a := e) (by omega) (by omega)
        have hlr : 0 + (gl_bls e (e - 0) 0).length + (gl_bls m (m - e) e).length = (gl_rws (fun i => I ((1 + 7 + 19 * lg) + 1) i) (fun i => L ((1 + 7 + 19 * lg) + 4) i) 0 e ++ gl_rws (fun i => I ((1 + 7 + 19 * lg) + 1) i) (fun i => L ((1 + 7 + 19 * lg) + 4) i) e m).length := by rw [List.length_append, gl_rws_ln, gl_rws_ln, Nat.zero_add]
        refine j_aload_n C dX0_grown_42 rfl 43 rfl ?_
        refine j_iload_n C dX0_grown_43 rfl 44 rfl ?_
        refine nw_X0_234 C (by omega) (by omega) dX0_grown_44 47 rfl ?_
        refine j_dup C dX0_grown_47 rfl 48 rfl ?_
        refine j_cv C (cs_X0_236 C (ct_X13_new (h - 1) (by omega)) rfl (by omega) (by omega) (by omega) rfl (Nat.le_of_ble_eq_true rfl) dX0_grown_48) 51 rfl ?_
        rintro _ rfl
        refine j_iload C dX0_grown_51 rfl 53 rfl ?_
        refine j_iload_n C dX0_grown_53 rfl 54 rfl ?_
        refine j_iconst (v := nI 0) C dX0_grown_54 (by decide) 55 rfl ?_
        refine j_aload_n C dX0_grown_55 rfl 56 rfl ?_
        refine j_aload C dX0_grown_56 rfl 58 rfl ?_
        refine j_iload_n C dX0_grown_58 rfl 59 rfl ?_
        refine j_iload C dX0_grown_59 rfl 61 rfl ?_
        refine j_aload_n C dX0_grown_61 rfl 62 rfl ?_
        refine j_aload C dX0_grown_62 rfl 64 rfl ?_
        refine j_iconst (v := nI 0) C dX0_grown_64 (by decide) 65 rfl ?_
        refine j_iload_n C dX0_grown_65 rfl 66 rfl ?_
        refine j_iconst (v := nI 0) C dX0_grown_66 (by decide) 67 rfl ?_
        refine j_ci C (cs_X0_216w C (ct_X0_writes (I := (va_up I N (fun _ => 0))) (K := fun i => I ((1 + 7 + 19 * lg) + 1) i) (V := fun i => L ((1 + 7 + 19 * lg) + 4) i) (lo := (1 + 7 + 19 * lg)) (n := mn lg) (a := 0) (b := e) (fr := 0) (h - 1) (by omega) hG1 hL1 (by omega) hsm1 (by omega) hn4 (Nat.zero_le _) (by omega)) hG1.o rfl (by omega) (by omega) (by omega) rfl (Nat.le_of_ble_eq_true rfl) dX0_grown_67) 70 rfl ?_
        rintro _ _ ⟨rfl, I4, rfl, hF4, h4⟩
        refine j_ci C (cs_X0_216 C (ct_X0_writes (I := I4) (K := fun i => I ((1 + 7 + 19 * lg) + 1) i) (V := fun i => L ((1 + 7 + 19 * lg) + 4) i) (lo := (1 + 7 + 19 * lg)) (n := mn lg) (a := e) (b := m) (fr := 0 + (gl_bls e (e - 0) 0).length) (h - 1) (by omega) hG1 hL1 (by omega) (gl_sm_fr hsm1 (by omega) (fun r hr => hF4 _ (by omega))) hmm hn4 (by omega) (by omega)) hG1.o rfl (by omega) (by omega) (by omega) rfl (Nat.le_of_ble_eq_true rfl) dX0_grown_70) 73 rfl ?_
        rintro _ _ ⟨rfl, I5, rfl, hF5, h5⟩
        refine j_ci C (cs_X0_220 C (ct_X0_puts_12 (N := N + 1) (s := s) (p := N) (mn := 0 + (gl_bls e (e - 0) 0).length + (gl_bls m (m - e) e).length) (h - 1) (by omega) hG1 (by omega) hs gl_up_eq (by omega) hN (by omega)) hG1.o rfl (by omega) (by omega) (by omega) rfl (Nat.le_of_ble_eq_true rfl) dX0_grown_73) 76 rfl ?_
        rintro _ _ ⟨rfl, q, hq, rfl⟩
        exact j_iret C hQ (by
                  rw [if_pos ⟨c_4, c_14, by rw [hcm]; exact c_26⟩, hcs, hcl, hcm, hci]
                  refine ⟨by rw [hlr], N + 1 + 1, _, _, _, _, _, rfl, by omega, fun c hc => ⟨by simp (disch := omega) only [gl_u2_eq, gl_u2_ne, gl_up_eq, gl_up_ne], by simp (disch := omega) only [gl_u2_eq, gl_u2_ne, gl_up_eq, gl_up_ne], by simp (disch := omega) only [gl_u2_eq, gl_u2_ne, gl_up_eq, gl_up_ne], fun q1 => by simp (disch := omega) only [gl_u2_eq, gl_u2_ne, gl_up_eq, gl_up_ne], fun q1 => ?_⟩, N, N + 1, 0, 0, ⟨by omega, by omega, by omega, by omega, fun q_ => by omega⟩, by simp (disch := omega) only [gl_u2_eq, gl_u2_ne, gl_up_eq, gl_up_ne], ⟨by show va_up _ (N + 1) _ N = _; simp (disch := omega) only [gl_u2_eq, gl_u2_ne, gl_up_eq, gl_up_ne], by simp (disch := omega) only [gl_u2_eq, gl_u2_ne, gl_up_eq, gl_up_ne], ?_, fun j hj => ?_, fun _ _ => rfl, fun q_ => by omega⟩, fun i hi j hj => ?_⟩
                  · simp (disch := omega) only [gl_u2_eq, gl_u2_ne, gl_up_eq, gl_up_ne]
                    rw [hF5 c (by omega), hF4 c (by omega)]
                    simp (disch := omega) only [gl_u2_eq, gl_u2_ne, gl_up_eq, gl_up_ne]
                  · show va_up _ (N + 1) _ (N + 1) = _
                    simp (disch := omega) only [gl_u2_eq, gl_u2_ne, gl_up_eq, gl_up_ne]
                    rw [hlr]
                  · have hj4 : j = 0 ∨ j = 1 ∨ j = 2 ∨ j = 3 := by unfold gl_fj at hj; omega
                    rcases hj4 with rfl | rfl | rfl | rfl
                    · simp (disch := omega) only [gl_u2_eq, gl_u2_ne, gl_up_eq, gl_up_ne]; rfl
                    · simp (disch := omega) only [gl_u2_eq, gl_u2_ne, gl_up_eq, gl_up_ne]; rfl
                    · simp (disch := omega) only [gl_u2_eq, gl_u2_ne, gl_up_eq, gl_up_ne]; rfl
                    · simp (disch := omega) only [gl_u2_eq, gl_u2_ne, gl_up_eq, gl_up_ne]; rw [hlr]; rfl
                  · have hi2 : i < 0 + (gl_bls e (e - 0) 0).length + (gl_bls m (m - e) e).length := by rw [hlr]; exact hi
                    rw [gl_up_eq, hq _ (by omega), h5, h4, ← gl_rws_ln (K := fun i => I ((1 + 7 + 19 * lg) + 1) i) (V := fun i => L ((1 + 7 + 19 * lg) + 4) i) (a := 0) (b := e)]
                    exact gl_wrs_2 hi hj) (by omega) (by omega) dX0_grown_76
      · refine j_iconst (v := -1) C dX0_grown_29 (by decide) 30 rfl ?_
        exact j_iret C hQ (by rw [if_neg (fun q => by rw [hcm, c_26] at q; exact absurd q.2.2 (by decide))]; exact ⟨rfl, rfl⟩) (by omega) (by omega) dX0_grown_30
