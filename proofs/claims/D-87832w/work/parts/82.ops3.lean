/-! MODULE GlassLog, heads: head, hasHead, reader, isMarked, blame, smear, agree, blames (by gen82.py) -/
set_option maxRecDepth 100000
/-- but for scratch all is as it was -/
def gl_xs (I I' : Nat → Nat → Int32) (B B' : Nat → Nat → Bool) : Prop := (∀ c, c < 690 ∨ 707 ≤ c → I' c = I c) ∧ ∀ c, c < 690 ∨ 707 ≤ c → B' c = B c
theorem gl_xs.rf {I : Nat → Nat → Int32} {B : Nat → Nat → Bool} : gl_xs I I B B := ⟨fun _ _ => rfl, fun _ _ => rfl⟩
set_option maxHeartbeats 4000000 in
set_option maxRecDepth 100000 in
theorem ct_X0_head {l : Launch} {δ : gl_Del} {Λ : gl_Lay} {I : Nat → Nat → Int32} {L : Nat → Nat → Int64} {B : Nat → Nat → Bool} {R : Nat → Nat → Option Nat} {lm : Nat} {mn wn : Nat → Nat} {sn : Nat → Nat → Nat} {x n w j : Int32} (h : Nat) (hh : 265 ≤ h) (hG : gl_GL Λ R) (H : gl_gL I 1 lm mn wn sn) (hsm : ∀ k, k < lm → gl_sm I (1 + 7 + 19 * k) (fun i => I (1 + 7 + 19 * k + 1) i) (fun i => L (1 + 7 + 19 * k + 4) i) (mn k)) : gl_Ct l δ yX0_head (ws_ yX0_head cX0_head 6 ((some FieldType.int))) (gl_rm h 0 0) 0 0 [.ref 0, .int x, .int n, .int w, .int j] (Λ, I, L, B, R) (gl_Qi fun r S => (if (gl_gic lm mn x n = true ∧ gl_in w 3 = true ∧ gl_in j 8 = true) then ∃ mp, gl_mq (I ((1 + 7 + 19 * x.toNatClampNeg) + 1)) (I ((1 + 7 + 19 * x.toNatClampNeg) + 2)) (sn x.toNatClampNeg) (B ((1 + 7 + 19 * x.toNatClampNeg) + 7)) (wn x.toNatClampNeg) n.toNatClampNeg mp ∧ r = gl_hw (I (1 + 7 + 19 * x.toNatClampNeg) 8) n (gl_ltop (fun i => I ((1 + 7 + 19 * x.toNatClampNeg) + 1) i) (fun i => L ((1 + 7 + 19 * x.toNatClampNeg) + 4) i) n.toNatClampNeg) (gl_mtree mp) w.toNatClampNeg j.toNatClampNeg else r = nI 0) ∧ ∃ I' B', S = (Λ, I', L, B', R) ∧ gl_xs I I' B B') := by
  refine gl_of (by decide) (Nat.le_of_ble_eq_true rfl) rfl ?_
  intro κ C hQ hlκ hδκ hnL hini
  change gl_Cx κ RX0 _ _ _ at C
  refine j_aload_n C dX0_head_0 rfl 1 rfl ?_
  refine j_iload_n C dX0_head_1 rfl 2 rfl ?_
  refine j_iload_n C dX0_head_2 rfl 3 rfl ?_
  refine j_ci C (cs_X0_84 C (ct_X0_isCount (h - 1) (by omega) hG H) hG.o rfl (by omega) (by omega) (by omega) rfl (Nat.le_of_ble_eq_true rfl) dX0_head_3) 6 rfl ?_
  rintro _ _ ⟨rfl, rfl⟩
  refine b_if_eq C 34 9 dX0_head_6 (by decide) rfl (fun c_6 => ?_) (fun c_6 => ?_)
  · refine j_iconst (v := nI 0) C dX0_head_34 (by decide) 35 rfl ?_
    exact j_iret C hQ ⟨by rw [if_neg (fun q => by rw [c_6] at q; exact absurd q.1 (by decide))], _, _, rfl, gl_xs.rf⟩ (by omega) (by omega) dX0_head_35
  · refine j_iload_n C dX0_head_9 rfl 10 rfl ?_
    refine j_i2l C dX0_head_10 rfl 11 rfl ?_
    refine j_lconst (v := lN 0) C dX0_head_11 (by decide) 12 rfl ?_
    refine j_ldc2 C q517 dX0_head_12 15 rfl ?_
    rw [show (2 : Int64) = lN 2 from rfl]
    refine j_ci C (cs_X0_57 C (ct_X0_in (h - 1) (by omega)) rfl (by omega) (by omega) (by omega) rfl (Nat.le_of_ble_eq_true rfl) dX0_head_15) 18 rfl ?_
    rintro _ _ ⟨rfl, rfl⟩
    rw [gl_il_c (n := 2) (by decide), show 2 + 1 = 3 from rfl]
    refine b_if_eq C 34 21 dX0_head_18 (by decide) rfl (fun c_18 => ?_) (fun c_18 => ?_)
    · refine j_iconst (v := nI 0) C dX0_head_34 (by decide) 35 rfl ?_
      exact j_iret C hQ ⟨by rw [if_neg (fun q => by rw [c_18] at q; exact absurd q.2.1 (by decide))], _, _, rfl, gl_xs.rf⟩ (by omega) (by omega) dX0_head_35
    · refine j_iload C dX0_head_21 rfl 23 rfl ?_
      refine j_i2l C dX0_head_23 rfl 24 rfl ?_
      refine j_lconst (v := lN 0) C dX0_head_24 (by decide) 25 rfl ?_
      refine j_ldc2 C q518 dX0_head_25 28 rfl ?_
      rw [show (7 : Int64) = lN 7 from rfl]
      refine j_ci C (cs_X0_57 C (ct_X0_in (h - 1) (by omega)) rfl (by omega) (by omega) (by omega) rfl (Nat.le_of_ble_eq_true rfl) dX0_head_28) 31 rfl ?_
      rintro _ _ ⟨rfl, rfl⟩
      rw [gl_il_c (n := 7) (by decide), show 7 + 1 = 8 from rfl]
      refine b_if_ne C 36 34 dX0_head_31 (by decide) rfl (fun c_31 => ?_) (fun c_31 => ?_)
      · obtain ⟨lg, m, hlg, hmm, rfl, rfl⟩ := (gl_gic_iff H.2.1 (fun k hk => (H.2.2 k hk).2.1)).mp c_6
        have hl6 := H.2.1
        have hL := hG.hs.lg lg (by omega)
        obtain ⟨hn9, hn4, hw10, hw1, hsn⟩ := H.2.2 lg hlg
        have hcl : (nI lg).toNatClampNeg = lg := nI_clamp (by omega)
        have hcm : (nI m).toNatClampNeg = m := nI_clamp (by omega)
        obtain ⟨d, hd, rfl⟩ := (gl_in_iff (by decide)).mp c_18
        obtain ⟨e, he, rfl⟩ := (gl_in_iff (by decide)).mp c_31
        have hcw : (nI d).toNatClampNeg = d := nI_clamp (by omega)
        have hce : (nI e).toNatClampNeg = e := nI_clamp (by omega)
        refine j_aload_n C dX0_head_36 rfl 37 rfl ?_
        refine j_iload_n C dX0_head_37 rfl 38 rfl ?_
        refine j_iload_n C dX0_head_38 rfl 39 rfl ?_
        refine j_cr C (cs_X0_157 C (ct_X0_headOf (h - 1) (by omega) hG H hlg hmm (hsm lg hlg)) hG.o rfl (by omega) (by omega) (by omega) rfl (Nat.le_of_ble_eq_true rfl) dX0_head_39) 42 rfl ?_
        rintro _ _ ⟨rfl, mp, I1, rfl, hf1, hq1, hh1⟩
        have hxs : gl_xs I I1 B (gl_u2 B 701 6 true) := ⟨fun c hc => hf1 c (by omega), fun c hc => gl_u2_ne (by omega)⟩
        have hval0 : d = 0 → I1 (701 + 1) e = gl_hw (I (1 + 7 + 19 * lg) 8) (nI m) (gl_ltop (fun i => I ((1 + 7 + 19 * lg) + 1) i) (fun i => L ((1 + 7 + 19 * lg) + 4) i) m) (gl_mtree mp) d e := fun q => by
          rw [(hh1.2.2.2 e he).1, q]; unfold gl_ask gl_hw
          rw [if_neg (by omega), if_neg (by omega), if_neg (by omega), if_neg (by omega), if_pos (by omega), if_pos rfl, show 0 + 4 + e - 4 = e by omega]
        have hval1 : d = 1 → I1 (701 + 2) e = gl_hw (I (1 + 7 + 19 * lg) 8) (nI m) (gl_ltop (fun i => I ((1 + 7 + 19 * lg) + 1) i) (fun i => L ((1 + 7 + 19 * lg) + 4) i) m) (gl_mtree mp) d e := fun q => by
          rw [(hh1.2.2.2 e he).2.1, q]; unfold gl_ask gl_hw
          rw [if_neg (by omega), if_neg (by omega), if_neg (by omega), if_neg (by omega), if_neg (by omega), if_pos (by omega), if_neg (by decide), if_pos rfl, show 0 + 12 + e - 12 = e by omega]
        have hval2 : d ≠ 0 → d ≠ 1 → I1 (701 + 3) e = gl_hw (I (1 + 7 + 19 * lg) 8) (nI m) (gl_ltop (fun i => I ((1 + 7 + 19 * lg) + 1) i) (fun i => L ((1 + 7 + 19 * lg) + 4) i) m) (gl_mtree mp) d e := fun q1 q2 => by
          rw [(hh1.2.2.2 e he).2.2]; unfold gl_ask gl_hw
          rw [if_neg (by omega), if_neg (by omega), if_neg (by omega), if_neg (by omega), if_neg (by omega), if_neg (by omega), if_neg q1, if_neg q2, show 0 + 20 + e - 20 = e by omega]
        refine j_astore C dX0_head_42 (Nat.le_of_ble_eq_true rfl) (by rw [hnL]; decide) rfl 44 rfl ?_
        refine j_iload_n C dX0_head_44 rfl 45 rfl ?_
        refine n_if_ne C 59 48 dX0_head_45 (by decide) rfl (by omega) (fun c_45 => ?_) (fun c_45 => ?_)
        · refine j_iload_n C dX0_head_59 rfl 60 rfl ?_
          refine j_iconst (v := nI 1) C dX0_head_60 (by decide) 61 rfl ?_
          refine n_icmp_ne C 75 64 dX0_head_61 (by decide) rfl (by omega) (by omega) (fun c_61 => ?_) (fun c_61 => ?_)
          · refine j_aload C dX0_head_75 rfl 77 rfl ?_
            refine gf_X0_148 C hG.ak.o hG.ak.r2 dX0_head_77 80 rfl ?_
            refine j_iload C dX0_head_80 rfl 82 rfl ?_
            refine j_iald C hG.ak.k3 (by omega) (by decide) dX0_head_82 83 rfl ?_
            exact j_iret C hQ ⟨by rw [if_pos ⟨c_6, c_18, c_31⟩, hcl, hcm, hcw, hce]; exact ⟨mp, hq1, hval2 c_45 c_61⟩, _, _, rfl, hxs⟩ (by omega) (by omega) dX0_head_83
          · refine j_aload C dX0_head_64 rfl 66 rfl ?_
            refine gf_X0_144 C hG.ak.o hG.ak.r1 dX0_head_66 69 rfl ?_
            refine j_iload C dX0_head_69 rfl 71 rfl ?_
            refine j_iald C hG.ak.k2 (by omega) (by decide) dX0_head_71 72 rfl ?_
            refine j_goto (tgt := 83) C dX0_head_72 (by decide) ?_
            exact j_iret C hQ ⟨by rw [if_pos ⟨c_6, c_18, c_31⟩, hcl, hcm, hcw, hce]; exact ⟨mp, hq1, hval1 c_61⟩, _, _, rfl, hxs⟩ (by omega) (by omega) dX0_head_83
        · refine j_aload C dX0_head_48 rfl 50 rfl ?_
          refine gf_X0_138 C hG.ak.o hG.ak.r0 dX0_head_50 53 rfl ?_
          refine j_iload C dX0_head_53 rfl 55 rfl ?_
          refine j_iald C hG.ak.k1 (by omega) (by decide) dX0_head_55 56 rfl ?_
          refine j_goto (tgt := 83) C dX0_head_56 (by decide) ?_
          exact j_iret C hQ ⟨by rw [if_pos ⟨c_6, c_18, c_31⟩, hcl, hcm, hcw, hce]; exact ⟨mp, hq1, hval0 c_45⟩, _, _, rfl, hxs⟩ (by omega) (by omega) dX0_head_83
      · refine j_iconst (v := nI 0) C dX0_head_34 (by decide) 35 rfl ?_
        exact j_iret C hQ ⟨by rw [if_neg (fun q => by rw [c_31] at q; exact absurd q.2.2 (by decide))], _, _, rfl, gl_xs.rf⟩ (by omega) (by omega) dX0_head_35
set_option maxHeartbeats 4000000 in
set_option maxRecDepth 100000 in
theorem ct_X0_hasHead {l : Launch} {δ : gl_Del} {Λ : gl_Lay} {I : Nat → Nat → Int32} {L : Nat → Nat → Int64} {B : Nat → Nat → Bool} {R : Nat → Nat → Option Nat} {x : Int32} (h : Nat) (hh : 3 ≤ h) (hG : gl_GL Λ R) : gl_Ct l δ yX0_hasHead (ws_ yX0_hasHead cX0_hasHead 2 ((some FieldType.boolean))) (gl_rm h 0 0) 0 0 [.ref 0, .int x] (Λ, I, L, B, R) (gl_Qi fun r S => r = b2i (gl_in x 12 && B (1 + 137 + 4 * x.toNatClampNeg) 6) ∧ S = (Λ, I, L, B, R)) := by
  refine gl_of (by decide) (Nat.le_of_ble_eq_true rfl) rfl ?_
  intro κ C hQ hlκ hδκ hnL hini
  change gl_Cx κ RX0 _ _ _ at C
  refine j_iload_n C dX0_hasHead_0 rfl 1 rfl ?_
  refine j_ci C (cs_X0_299 C (ct_X0_isReader (h - 1) (by omega)) rfl (by omega) (by omega) (by omega) rfl (Nat.le_of_ble_eq_true rfl) dX0_hasHead_1) 4 rfl ?_
  rintro _ _ ⟨rfl, rfl⟩
  refine b_if_eq C 26 7 dX0_hasHead_4 (by decide) rfl (fun c_4 => ?_) (fun c_4 => ?_)
  · refine j_iconst (v := b2i false) C dX0_hasHead_26 (by decide) 27 rfl ?_
    exact j_zret C hQ ⟨by rw [c_4]; rfl, rfl⟩ (by omega) (by omega) dX0_hasHead_27
  · obtain ⟨k, hk_, rfl⟩ := (gl_in_iff (by decide)).mp c_4
    have hD := hG.hs.hd k hk_
    have hck : (nI k).toNatClampNeg = k := nI_clamp (by omega)
    refine j_aload_n C dX0_hasHead_7 rfl 8 rfl ?_
    refine gf_X0_12 C hG.o hG.r0 dX0_hasHead_8 11 rfl ?_
    refine gf_X0_302 C hG.hs.o hG.hs.r2 dX0_hasHead_11 14 rfl ?_
    refine j_iload_n C dX0_hasHead_14 rfl 15 rfl ?_
    refine j_aald C (by decide) hG.hs.k3 (by omega) (by decide) dX0_hasHead_15 16 rfl ?_
    rw [hG.hs.hr k (by omega)]
    change gl_J _ _ _ _ _ _ (Value.ref _ :: _)
    refine gf_X0_121 C hD.o dX0_hasHead_16 19 rfl ?_
    refine b_if_eq C 26 22 dX0_hasHead_19 (by decide) rfl (fun c_19 => ?_) (fun c_19 => ?_)
    · refine j_iconst (v := b2i false) C dX0_hasHead_26 (by decide) 27 rfl ?_
      exact j_zret C hQ ⟨by rw [c_4, hck, c_19]; rfl, rfl⟩ (by omega) (by omega) dX0_hasHead_27
    · refine j_iconst (v := b2i true) C dX0_hasHead_22 (by decide) 23 rfl ?_
      refine j_goto (tgt := 27) C dX0_hasHead_23 (by decide) ?_
      exact j_zret C hQ ⟨by rw [c_4, hck, c_19]; rfl, rfl⟩ (by omega) (by omega) dX0_hasHead_27
theorem gl_out_in {x : Int32} {n m : Nat} (hm : m ≤ n) (hn : n < 2 ^ 31) (h : x.toInt < 0 ∨ (n : Int) - 1 < x.toInt) : gl_in x m = false := by
  cases hq : gl_in x m with
  | false => rfl
  | true =>
    obtain ⟨k, hk, e⟩ := (gl_in_iff (by omega)).mp hq
    exact absurd e (gl_out hn (by omega) h)
set_option maxHeartbeats 4000000 in
set_option maxRecDepth 100000 in
theorem ct_X0_reader {l : Launch} {δ : gl_Del} {Λ : gl_Lay} {I : Nat → Nat → Int32} {L : Nat → Nat → Int64} {B : Nat → Nat → Bool} {R : Nat → Nat → Option Nat} {x w : Int32} (h : Nat) (hh : 3 ≤ h) (hG : gl_GL Λ R) : gl_Ct l δ yX0_reader (ws_ yX0_reader cX0_reader 4 ((some FieldType.int))) (gl_rm h 0 0) 0 0 [.ref 0, .int x, .int w] (Λ, I, L, B, R) (gl_Qi fun r S => r = (if gl_in x 12 = true then (if w = nI 3 then I 7 x.toNatClampNeg else if gl_in w 3 = true ∧ B (1 + 137 + 4 * x.toNatClampNeg) 6 = true then I (1 + 137 + 4 * x.toNatClampNeg) (3 + w.toNatClampNeg) else -1) else -1) ∧ S = (Λ, I, L, B, R)) := by
  refine gl_of (by decide) (Nat.le_of_ble_eq_true rfl) rfl ?_
  intro κ C hQ hlκ hδκ hnL hini
  change gl_Cx κ RX0 _ _ _ at C
  refine j_iload_n C dX0_reader_0 rfl 1 rfl ?_
  refine j_ci C (cs_X0_299 C (ct_X0_isReader (h - 1) (by omega)) rfl (by omega) (by omega) (by omega) rfl (Nat.le_of_ble_eq_true rfl) dX0_reader_1) 4 rfl ?_
  rintro _ _ ⟨rfl, rfl⟩
  refine b_if_ne C 9 7 dX0_reader_4 (by decide) rfl (fun c_4 => ?_) (fun c_4 => ?_)
  · obtain ⟨k, hk_, rfl⟩ := (gl_in_iff (by decide)).mp c_4
    have hD := hG.hs.hd k hk_
    have hck : (nI k).toNatClampNeg = k := nI_clamp (by omega)
    refine j_aload_n C dX0_reader_9 rfl 10 rfl ?_
    refine gf_X0_12 C hG.o hG.r0 dX0_reader_10 13 rfl ?_
    refine gf_X0_302 C hG.hs.o hG.hs.r2 dX0_reader_13 16 rfl ?_
    refine j_iload_n C dX0_reader_16 rfl 17 rfl ?_
    refine j_aald C (by decide) hG.hs.k3 (by omega) (by decide) dX0_reader_17 18 rfl ?_
    rw [hG.hs.hr k (by omega)]
    change gl_J _ _ _ _ _ _ (Value.ref _ :: _)
    refine j_astore_n C dX0_reader_18 (Nat.le_of_ble_eq_true rfl) (by rw [hnL]; decide) rfl 19 rfl ?_
    refine j_iload_n C dX0_reader_19 rfl 20 rfl ?_
    rcases gl_sw w 4 (by decide) with ⟨k_, hk_, rfl⟩ | ho_
    · rcases (show k_ = 0 ∨ k_ = 1 ∨ k_ = 2 ∨ k_ = 3 by omega) with rfl | rfl | rfl | rfl
      · refine j_tableIn C 52 dX0_reader_20 (by decide) (by decide) rfl (by decide) ?_
        refine j_aload_n C dX0_reader_52 rfl 53 rfl ?_
        refine gf_X0_121 C hD.o dX0_reader_53 56 rfl ?_
        refine b_if_eq C 66 59 dX0_reader_56 (by decide) rfl (fun c_56 => ?_) (fun c_56 => ?_)
        · refine j_iconst (v := -1) C dX0_reader_66 (by decide) 67 rfl ?_
          exact j_iret C hQ ⟨by rw [if_pos c_4, hck, if_neg (by decide), if_neg (fun q => by rw [c_56] at q; exact absurd q.2 (by decide))], rfl⟩ (by omega) (by omega) dX0_reader_67
        · refine j_aload_n C dX0_reader_59 rfl 60 rfl ?_
          refine gf_X0_125 C hD.o dX0_reader_60 63 rfl ?_
          refine j_goto (tgt := 67) C dX0_reader_63 (by decide) ?_
          exact j_iret C hQ ⟨by rw [if_pos c_4, hck, if_neg (by decide), if_pos ⟨by decide, c_56⟩]; rfl, rfl⟩ (by omega) (by omega) dX0_reader_67
      · refine j_tableIn C 68 dX0_reader_20 (by decide) (by decide) rfl (by decide) ?_
        refine j_aload_n C dX0_reader_68 rfl 69 rfl ?_
        refine gf_X0_121 C hD.o dX0_reader_69 72 rfl ?_
        refine b_if_eq C 82 75 dX0_reader_72 (by decide) rfl (fun c_72 => ?_) (fun c_72 => ?_)
        · refine j_iconst (v := -1) C dX0_reader_82 (by decide) 83 rfl ?_
          exact j_iret C hQ ⟨by rw [if_pos c_4, hck, if_neg (by decide), if_neg (fun q => by rw [c_72] at q; exact absurd q.2 (by decide))], rfl⟩ (by omega) (by omega) dX0_reader_83
        · refine j_aload_n C dX0_reader_75 rfl 76 rfl ?_
          refine gf_X0_128 C hD.o dX0_reader_76 79 rfl ?_
          refine j_goto (tgt := 83) C dX0_reader_79 (by decide) ?_
          exact j_iret C hQ ⟨by rw [if_pos c_4, hck, if_neg (by decide), if_pos ⟨by decide, c_72⟩]; rfl, rfl⟩ (by omega) (by omega) dX0_reader_83
      · refine j_tableIn C 84 dX0_reader_20 (by decide) (by decide) rfl (by decide) ?_
        refine j_aload_n C dX0_reader_84 rfl 85 rfl ?_
        refine gf_X0_121 C hD.o dX0_reader_85 88 rfl ?_
        refine b_if_eq C 98 91 dX0_reader_88 (by decide) rfl (fun c_88 => ?_) (fun c_88 => ?_)
        · refine j_iconst (v := -1) C dX0_reader_98 (by decide) 99 rfl ?_
          exact j_iret C hQ ⟨by rw [if_pos c_4, hck, if_neg (by decide), if_neg (fun q => by rw [c_88] at q; exact absurd q.2 (by decide))], rfl⟩ (by omega) (by omega) dX0_reader_99
        · refine j_aload_n C dX0_reader_91 rfl 92 rfl ?_
          refine gf_X0_131 C hD.o dX0_reader_92 95 rfl ?_
          refine j_goto (tgt := 99) C dX0_reader_95 (by decide) ?_
          exact j_iret C hQ ⟨by rw [if_pos c_4, hck, if_neg (by decide), if_pos ⟨by decide, c_88⟩]; rfl, rfl⟩ (by omega) (by omega) dX0_reader_99
      · refine j_tableIn C 100 dX0_reader_20 (by decide) (by decide) rfl (by decide) ?_
        refine j_aload_n C dX0_reader_100 rfl 101 rfl ?_
        refine gf_X0_12 C hG.o hG.r0 dX0_reader_101 104 rfl ?_
        refine gf_X0_334 C hG.hs.o hG.hs.r5 dX0_reader_104 107 rfl ?_
        refine j_iload_n C dX0_reader_107 rfl 108 rfl ?_
        refine j_iald C hG.hs.k6 (by omega) (by decide) dX0_reader_108 109 rfl ?_
        exact j_iret C hQ ⟨by rw [if_pos c_4, hck, if_pos rfl], rfl⟩ (by omega) (by omega) dX0_reader_109
    · refine j_tableOut C 110 dX0_reader_20 (by omega) (by decide) ?_
      refine j_iconst (v := -1) C dX0_reader_110 (by decide) 111 rfl ?_
      exact j_iret C hQ ⟨by rw [if_pos c_4, hck, if_neg (gl_out (by decide) (by decide) ho_), if_neg (fun q => by rw [gl_out_in (by decide) (by decide) ho_] at q; exact absurd q.1 (by decide))], rfl⟩ (by omega) (by omega) dX0_reader_111
  · refine j_iconst (v := -1) C dX0_reader_7 (by decide) 8 rfl ?_
    exact j_iret C hQ ⟨by rw [if_neg (by rw [c_4]; decide)], rfl⟩ (by omega) (by omega) dX0_reader_8
set_option maxHeartbeats 4000000 in
set_option maxRecDepth 100000 in
theorem ct_X0_isMarked {l : Launch} {δ : gl_Del} {Λ : gl_Lay} {I : Nat → Nat → Int32} {L : Nat → Nat → Int64} {B : Nat → Nat → Bool} {R : Nat → Nat → Option Nat} {d : Nat} (h : Nat) (hh : 5 ≤ h) (hG : gl_GL Λ R) (hD : gl_DL Λ R d) (hdr : d + 4 ≤ 690) : gl_Ct l δ yX0_isMarked (ws_ yX0_isMarked cX0_isMarked 2 ((some FieldType.boolean))) (gl_rm h 0 0) 0 0 [.ref 0, .ref d] (Λ, I, L, B, R) (gl_Qi fun r S => r = b2i (gl_lk (gl_mark (I d 5) (I d 3) (I (d + 1)) (I (d + 2))) (I (d + 3)) 8) ∧ ∃ I', S = (Λ, I', L, B, R) ∧ (∀ c, c ≠ 690 → c ≠ 691 → c ≠ 706 → I' c = I c)) := by
  refine gl_of (by decide) (Nat.le_of_ble_eq_true rfl) rfl ?_
  intro κ C hQ hlκ hδκ hnL hini
  change gl_Cx κ RX0 _ _ _ at C
  refine j_aload_n C dX0_isMarked_0 rfl 1 rfl ?_
  refine j_aload_n C dX0_isMarked_1 rfl 2 rfl ?_
  refine gf_X0_19 C hG.o hG.r1 dX0_isMarked_2 5 rfl ?_
  refine j_aload_n C dX0_isMarked_5 rfl 6 rfl ?_
  refine gf_X0_50 C hG.o hG.r6 dX0_isMarked_6 9 rfl ?_
  refine j_cv C (cs_X0_149 C (ct_X4_marks (d := d) (to := 706) (nt := 8) (h - 1) (by omega) hD hG (by omega) hG.mk (by decide) (by decide) (by decide)) hD.o rfl (by omega) (by omega) (by omega) rfl (Nat.le_of_ble_eq_true rfl) dX0_isMarked_9) 12 rfl ?_
  rintro _ ⟨I1, rfl, h1, ht1⟩
  refine j_aload_n C dX0_isMarked_12 rfl 13 rfl ?_
  refine gf_X0_50 C hG.o hG.r6 dX0_isMarked_13 16 rfl ?_
  refine j_iconst (v := nI 0) C dX0_isMarked_16 (by decide) 17 rfl ?_
  refine j_aload_n C dX0_isMarked_17 rfl 18 rfl ?_
  refine gf_X0_148 C hD.o hD.r2 dX0_isMarked_18 21 rfl ?_
  refine j_iconst (v := nI 0) C dX0_isMarked_21 (by decide) 22 rfl ?_
  refine j_ci C (cs_X0_317 C (ct_X0_isLike (I := I1) (x := 706) (y := d + 3) (nx := 8) (ny := 8) (p := 0) (q := 0) (h - 1) (by omega) hG.mk (by decide) (by decide) hD.k3 (by decide) (by decide)) rfl (by omega) (by omega) (by omega) rfl (Nat.le_of_ble_eq_true rfl) dX0_isMarked_22) 25 rfl ?_
  rintro _ _ ⟨rfl, rfl⟩
  exact j_zret C hQ ⟨by rw [gl_lk_congr 8 (fun t ht => by rw [ht1, pk_cpy_in (by omega) (by omega), show 0 + (0 + t - 0) = t by omega]) (fun t ht => by rw [Nat.zero_add, h1 (d + 3) (by omega) (by omega) (by omega)])], _, rfl, h1⟩ (by omega) (by omega) dX0_isMarked_25
set_option maxHeartbeats 4000000 in
set_option maxRecDepth 100000 in
theorem ct_X0_blame {l : Launch} {δ : gl_Del} {Λ : gl_Lay} {I : Nat → Nat → Int32} {L : Nat → Nat → Int64} {B : Nat → Nat → Bool} {R : Nat → Nat → Option Nat} {bm : Nat} {x w : Int32} (h : Nat) (hh : 6 ≤ h) (hG : gl_GL Λ R) (hbm : I 1 7 = nI bm) (hb6 : bm ≤ 60) : gl_Ct l δ yX0_blame (ws_ yX0_blame cX0_blame 5 ((some FieldType.int))) (gl_rm h 0 0) 0 0 [.ref 0, .int x, .int w] (Λ, I, L, B, R) (gl_Qi fun r S => r = (if gl_in x bm = true then (if w = nI 0 then I (1 + 185 + 4 * (2 * x.toNatClampNeg)) 3 else (if w = nI 1 then I (1 + 185 + 4 * (2 * x.toNatClampNeg + 1)) 3 else (if w = nI 2 then I (1 + 185 + 4 * (2 * x.toNatClampNeg)) 5 else (if w = nI 3 then b2i (gl_lk (gl_mark (I (1 + 185 + 4 * (2 * x.toNatClampNeg)) 5) (I (1 + 185 + 4 * (2 * x.toNatClampNeg)) 3) (I ((1 + 185 + 4 * (2 * x.toNatClampNeg)) + 1)) (I ((1 + 185 + 4 * (2 * x.toNatClampNeg)) + 2))) (I ((1 + 185 + 4 * (2 * x.toNatClampNeg)) + 3)) 8 && gl_lk (gl_mark (I (1 + 185 + 4 * (2 * x.toNatClampNeg + 1)) 5) (I (1 + 185 + 4 * (2 * x.toNatClampNeg + 1)) 3) (I ((1 + 185 + 4 * (2 * x.toNatClampNeg + 1)) + 1)) (I ((1 + 185 + 4 * (2 * x.toNatClampNeg + 1)) + 2))) (I ((1 + 185 + 4 * (2 * x.toNatClampNeg + 1)) + 3)) 8) else (if w = nI 4 then I ((1 + 185 + 4 * (2 * x.toNatClampNeg)) + 1) 0 else (if w = nI 5 then I ((1 + 185 + 4 * (2 * x.toNatClampNeg + 1)) + 1) 0 else (if w = nI 6 then I ((1 + 185 + 4 * (2 * x.toNatClampNeg)) + 2) 0 else (if w = nI 7 then I ((1 + 185 + 4 * (2 * x.toNatClampNeg + 1)) + 2) 0 else -1)))))))) else -1) ∧ ∃ I', S = (Λ, I', L, B, R) ∧ (∀ c, c ≠ 690 → c ≠ 691 → c ≠ 706 → I' c = I c)) := by
  refine gl_of (by decide) (Nat.le_of_ble_eq_true rfl) rfl ?_
  intro κ C hQ hlκ hδκ hnL hini
  change gl_Cx κ RX0 _ _ _ at C
  refine j_iload_n C dX0_blame_0 rfl 1 rfl ?_
  refine j_i2l C dX0_blame_1 rfl 2 rfl ?_
  refine j_lconst (v := lN 0) C dX0_blame_2 (by decide) 3 rfl ?_
  refine j_aload_n C dX0_blame_3 rfl 4 rfl ?_
  refine gf_X0_12 C hG.o hG.r0 dX0_blame_4 7 rfl ?_
  refine gf_X0_321 C hG.hs.o dX0_blame_7 10 rfl ?_
  rw [hbm]
  refine j_iconst (v := nI 1) C dX0_blame_10 (by decide) 11 rfl ?_
  refine j_isub C dX0_blame_11 12 rfl ?_
  refine j_i2l C dX0_blame_12 rfl 13 rfl ?_
  refine j_ci C (cs_X0_57 C (ct_X0_in (h - 1) (by omega)) rfl (by omega) (by omega) (by omega) rfl (Nat.le_of_ble_eq_true rfl) dX0_blame_13) 16 rfl ?_
  rintro _ _ ⟨rfl, rfl⟩
  rw [gl_il_n (by omega)]
  refine b_if_ne C 21 19 dX0_blame_16 (by decide) rfl (fun c_16 => ?_) (fun c_16 => ?_)
  · obtain ⟨k, hk_, rfl⟩ := (gl_in_iff (by omega)).mp c_16
    have hDa := hG.hs.bd (2 * k) (by omega)
    have hDb := hG.hs.bd (2 * k + 1) (by omega)
    have hck : (nI k).toNatClampNeg = k := nI_clamp (by omega)
    refine j_aload_n C dX0_blame_21 rfl 22 rfl ?_
    refine gf_X0_12 C hG.o hG.r0 dX0_blame_22 25 rfl ?_
    refine gf_X0_324 C hG.hs.o hG.hs.r3 dX0_blame_25 28 rfl ?_
    refine j_iconst (v := nI 2) C dX0_blame_28 (by decide) 29 rfl ?_
    refine j_iload_n C dX0_blame_29 rfl 30 rfl ?_
    refine n_imul C dX0_blame_30 31 rfl ?_
    refine j_aald C (by decide) hG.hs.k4 (by omega) (by decide) dX0_blame_31 32 rfl ?_
    rw [hG.hs.br (2 * k) (by omega)]
    change gl_J _ _ _ _ _ _ (Value.ref _ :: _)
    refine j_astore_n C dX0_blame_32 (Nat.le_of_ble_eq_true rfl) (by rw [hnL]; decide) rfl 33 rfl ?_
    refine j_aload_n C dX0_blame_33 rfl 34 rfl ?_
    refine gf_X0_12 C hG.o hG.r0 dX0_blame_34 37 rfl ?_
    refine gf_X0_324 C hG.hs.o hG.hs.r3 dX0_blame_37 40 rfl ?_
    refine j_iconst (v := nI 2) C dX0_blame_40 (by decide) 41 rfl ?_
    refine j_iload_n C dX0_blame_41 rfl 42 rfl ?_
    refine n_imul C dX0_blame_42 43 rfl ?_
    refine j_iconst (v := nI 1) C dX0_blame_43 (by decide) 44 rfl ?_
    refine n_iadd C dX0_blame_44 45 rfl ?_
    refine j_aald C (by decide) hG.hs.k4 (by omega) (by decide) dX0_blame_45 46 rfl ?_
    rw [hG.hs.br (2 * k + 1) (by omega)]
    change gl_J _ _ _ _ _ _ (Value.ref _ :: _)
    refine j_astore C dX0_blame_46 (Nat.le_of_ble_eq_true rfl) (by rw [hnL]; decide) rfl 48 rfl ?_
    refine j_iload_n C dX0_blame_48 rfl 49 rfl ?_
    rcases gl_sw w 8 (by decide) with ⟨k_, hk_, rfl⟩ | ho_
    · rcases (show k_ = 0 ∨ k_ = 1 ∨ k_ = 2 ∨ k_ = 3 ∨ k_ = 4 ∨ k_ = 5 ∨ k_ = 6 ∨ k_ = 7 by omega) with rfl | rfl | rfl | rfl | rfl | rfl | rfl | rfl
      · refine j_tableIn C 96 dX0_blame_49 (by decide) (by decide) rfl (by decide) ?_
        refine j_aload_n C dX0_blame_96 rfl 97 rfl ?_
        refine gf_X0_125 C hDa.o dX0_blame_97 100 rfl ?_
        exact j_iret C hQ ⟨by rw [if_pos c_16, hck, if_pos rfl], _, rfl, fun _ _ _ _ => rfl⟩ (by omega) (by omega) dX0_blame_100
      · refine j_tableIn C 101 dX0_blame_49 (by decide) (by decide) rfl (by decide) ?_
        refine j_aload C dX0_blame_101 rfl 103 rfl ?_
        refine gf_X0_125 C hDb.o dX0_blame_103 106 rfl ?_
        exact j_iret C hQ ⟨by rw [if_pos c_16, hck, if_neg (by decide), if_pos rfl], _, rfl, fun _ _ _ _ => rfl⟩ (by omega) (by omega) dX0_blame_106
      · refine j_tableIn C 107 dX0_blame_49 (by decide) (by decide) rfl (by decide) ?_
        refine j_aload_n C dX0_blame_107 rfl 108 rfl ?_
        refine gf_X0_131 C hDa.o dX0_blame_108 111 rfl ?_
        exact j_iret C hQ ⟨by rw [if_pos c_16, hck, if_neg (by decide), if_neg (by decide), if_pos rfl], _, rfl, fun _ _ _ _ => rfl⟩ (by omega) (by omega) dX0_blame_111
      · refine j_tableIn C 112 dX0_blame_49 (by decide) (by decide) rfl (by decide) ?_
        refine j_aload_n C dX0_blame_112 rfl 113 rfl ?_
        refine j_aload_n C dX0_blame_113 rfl 114 rfl ?_
        refine j_ci C (cs_X0_336 C (ct_X0_isMarked (d := (1 + 185 + 4 * (2 * k))) (h - 1) (by omega) hG hDa (by omega)) hG.o rfl (by omega) (by omega) (by omega) rfl (Nat.le_of_ble_eq_true rfl) dX0_blame_114) 117 rfl ?_
        rintro _ _ ⟨rfl, I1, rfl, h1⟩
        refine b_if_eq C 133 120 dX0_blame_117 (by decide) rfl (fun c_117 => ?_) (fun c_117 => ?_)
        · refine j_iconst (v := nI 0) C dX0_blame_133 (by decide) 134 rfl ?_
          exact j_iret C hQ ⟨by rw [if_pos c_16, hck, if_neg (by decide), if_neg (by decide), if_neg (by decide), if_pos rfl, c_117]; rfl, _, rfl, h1⟩ (by omega) (by omega) dX0_blame_134
        · refine j_aload_n C dX0_blame_120 rfl 121 rfl ?_
          refine j_aload C dX0_blame_121 rfl 123 rfl ?_
          refine j_ci C (cs_X0_336 C (ct_X0_isMarked (I := I1) (d := (1 + 185 + 4 * (2 * k + 1))) (h - 1) (by omega) hG hDb (by omega)) hG.o rfl (by omega) (by omega) (by omega) rfl (Nat.le_of_ble_eq_true rfl) dX0_blame_123) 126 rfl ?_
          rintro _ _ ⟨rfl, I2, rfl, h2⟩
          rw [h1 (1 + 185 + 4 * (2 * k + 1)) (by omega) (by omega) (by omega), h1 ((1 + 185 + 4 * (2 * k + 1)) + 1) (by omega) (by omega) (by omega), h1 ((1 + 185 + 4 * (2 * k + 1)) + 2) (by omega) (by omega) (by omega), h1 ((1 + 185 + 4 * (2 * k + 1)) + 3) (by omega) (by omega) (by omega)]
          refine b_if_eq C 133 129 dX0_blame_126 (by decide) rfl (fun c_126 => ?_) (fun c_126 => ?_)
          · refine j_iconst (v := nI 0) C dX0_blame_133 (by decide) 134 rfl ?_
            exact j_iret C hQ ⟨by rw [if_pos c_16, hck, if_neg (by decide), if_neg (by decide), if_neg (by decide), if_pos rfl, c_117, c_126]; rfl, _, rfl, fun c q1 q2 q3 => (h2 c q1 q2 q3).trans (h1 c q1 q2 q3)⟩ (by omega) (by omega) dX0_blame_134
          · refine j_iconst (v := nI 1) C dX0_blame_129 (by decide) 130 rfl ?_
            refine j_goto (tgt := 134) C dX0_blame_130 (by decide) ?_
            exact j_iret C hQ ⟨by rw [if_pos c_16, hck, if_neg (by decide), if_neg (by decide), if_neg (by decide), if_pos rfl, c_117, c_126]; rfl, _, rfl, fun c q1 q2 q3 => (h2 c q1 q2 q3).trans (h1 c q1 q2 q3)⟩ (by omega) (by omega) dX0_blame_134
      · refine j_tableIn C 135 dX0_blame_49 (by decide) (by decide) rfl (by decide) ?_
        refine j_aload_n C dX0_blame_135 rfl 136 rfl ?_
        refine gf_X0_138 C hDa.o hDa.r0 dX0_blame_136 139 rfl ?_
        refine j_iconst (v := nI 0) C dX0_blame_139 (by decide) 140 rfl ?_
        refine j_iald C hDa.k1 (by decide) (by decide) dX0_blame_140 141 rfl ?_
        exact j_iret C hQ ⟨by rw [if_pos c_16, hck, if_neg (by decide), if_neg (by decide), if_neg (by decide), if_neg (by decide), if_pos rfl], _, rfl, fun _ _ _ _ => rfl⟩ (by omega) (by omega) dX0_blame_141
      · refine j_tableIn C 142 dX0_blame_49 (by decide) (by decide) rfl (by decide) ?_
        refine j_aload C dX0_blame_142 rfl 144 rfl ?_
        refine gf_X0_138 C hDb.o hDb.r0 dX0_blame_144 147 rfl ?_
        refine j_iconst (v := nI 0) C dX0_blame_147 (by decide) 148 rfl ?_
        refine j_iald C hDb.k1 (by decide) (by decide) dX0_blame_148 149 rfl ?_
        exact j_iret C hQ ⟨by rw [if_pos c_16, hck, if_neg (by decide), if_neg (by decide), if_neg (by decide), if_neg (by decide), if_neg (by decide), if_pos rfl], _, rfl, fun _ _ _ _ => rfl⟩ (by omega) (by omega) dX0_blame_149
      · refine j_tableIn C 150 dX0_blame_49 (by decide) (by decide) rfl (by decide) ?_
        refine j_aload_n C dX0_blame_150 rfl 151 rfl ?_
        refine gf_X0_144 C hDa.o hDa.r1 dX0_blame_151 154 rfl ?_
        refine j_iconst (v := nI 0) C dX0_blame_154 (by decide) 155 rfl ?_
        refine j_iald C hDa.k2 (by decide) (by decide) dX0_blame_155 156 rfl ?_
        exact j_iret C hQ ⟨by rw [if_pos c_16, hck, if_neg (by decide), if_neg (by decide), if_neg (by decide), if_neg (by decide), if_neg (by decide), if_neg (by decide), if_pos rfl], _, rfl, fun _ _ _ _ => rfl⟩ (by omega) (by omega) dX0_blame_156
      · refine j_tableIn C 157 dX0_blame_49 (by decide) (by decide) rfl (by decide) ?_
        refine j_aload C dX0_blame_157 rfl 159 rfl ?_
        refine gf_X0_144 C hDb.o hDb.r1 dX0_blame_159 162 rfl ?_
        refine j_iconst (v := nI 0) C dX0_blame_162 (by decide) 163 rfl ?_
        refine j_iald C hDb.k2 (by decide) (by decide) dX0_blame_163 164 rfl ?_
        exact j_iret C hQ ⟨by rw [if_pos c_16, hck, if_neg (by decide), if_neg (by decide), if_neg (by decide), if_neg (by decide), if_neg (by decide), if_neg (by decide), if_neg (by decide), if_pos rfl], _, rfl, fun _ _ _ _ => rfl⟩ (by omega) (by omega) dX0_blame_164
    · refine j_tableOut C 165 dX0_blame_49 (by omega) (by decide) ?_
      refine j_iconst (v := -1) C dX0_blame_165 (by decide) 166 rfl ?_
      exact j_iret C hQ ⟨by rw [if_pos c_16, hck, if_neg (gl_out (by decide) (by decide) ho_), if_neg (gl_out (by decide) (by decide) ho_), if_neg (gl_out (by decide) (by decide) ho_), if_neg (gl_out (by decide) (by decide) ho_), if_neg (gl_out (by decide) (by decide) ho_), if_neg (gl_out (by decide) (by decide) ho_), if_neg (gl_out (by decide) (by decide) ho_), if_neg (gl_out (by decide) (by decide) ho_)], _, rfl, fun _ _ _ _ => rfl⟩ (by omega) (by omega) dX0_blame_166
  · refine j_iconst (v := -1) C dX0_blame_19 (by decide) 20 rfl ?_
    exact j_iret C hQ ⟨by rw [if_neg (by rw [c_16]; decide)], _, rfl, fun _ _ _ _ => rfl⟩ (by omega) (by omega) dX0_blame_20
set_option maxHeartbeats 4000000 in
set_option maxRecDepth 100000 in
theorem ct_X0_smear {l : Launch} {δ : gl_Del} {Λ : gl_Lay} {I : Nat → Nat → Int32} {L : Nat → Nat → Int64} {B : Nat → Nat → Bool} {R : Nat → Nat → Option Nat} {bm : Nat} {x j mk : Int32} (h : Nat) (hh : 3 ≤ h) (hG : gl_GL Λ R) (hbm : I 1 7 = nI bm) (hb6 : bm ≤ 60) : gl_Ct l δ yX0_smear (ws_ yX0_smear cX0_smear 4 ((some FieldType.boolean))) (gl_rm h 0 0) 0 0 [.ref 0, .int x, .int j, .int mk] (Λ, I, L, B, R) (gl_Qi fun r S => r = b2i (decide (gl_in x bm = true ∧ gl_in j 8 = true)) ∧ S = if (gl_in x bm = true ∧ gl_in j 8 = true) then (Λ, gl_u2 I ((1 + 185 + 4 * (2 * x.toNatClampNeg + 1)) + 3) j.toNatClampNeg (I ((1 + 185 + 4 * (2 * x.toNatClampNeg + 1)) + 3) j.toNatClampNeg ^^^ mk), L, B, R) else (Λ, I, L, B, R)) := by
  refine gl_of (by decide) (Nat.le_of_ble_eq_true rfl) rfl ?_
  intro κ C hQ hlκ hδκ hnL hini
  change gl_Cx κ RX0 _ _ _ at C
  refine j_iload_n C dX0_smear_0 rfl 1 rfl ?_
  refine j_i2l C dX0_smear_1 rfl 2 rfl ?_
  refine j_lconst (v := lN 0) C dX0_smear_2 (by decide) 3 rfl ?_
  refine j_aload_n C dX0_smear_3 rfl 4 rfl ?_
  refine gf_X0_12 C hG.o hG.r0 dX0_smear_4 7 rfl ?_
  refine gf_X0_321 C hG.hs.o dX0_smear_7 10 rfl ?_
  rw [hbm]
  refine j_iconst (v := nI 1) C dX0_smear_10 (by decide) 11 rfl ?_
  refine j_isub C dX0_smear_11 12 rfl ?_
  refine j_i2l C dX0_smear_12 rfl 13 rfl ?_
  refine j_ci C (cs_X0_57 C (ct_X0_in (h - 1) (by omega)) rfl (by omega) (by omega) (by omega) rfl (Nat.le_of_ble_eq_true rfl) dX0_smear_13) 16 rfl ?_
  rintro _ _ ⟨rfl, rfl⟩
  rw [gl_il_n (by omega)]
  refine b_if_eq C 31 19 dX0_smear_16 (by decide) rfl (fun c_16 => ?_) (fun c_16 => ?_)
  · refine j_iconst (v := b2i false) C dX0_smear_31 (by decide) 32 rfl ?_
    exact j_zret C hQ ⟨by rw [decide_eq_false (fun q => by rw [c_16] at q; exact absurd q.1 (by decide))], by rw [if_neg (fun q => by rw [c_16] at q; exact absurd q.1 (by decide))]⟩ (by omega) (by omega) dX0_smear_32
  · refine j_iload_n C dX0_smear_19 rfl 20 rfl ?_
    refine j_i2l C dX0_smear_20 rfl 21 rfl ?_
    refine j_lconst (v := lN 0) C dX0_smear_21 (by decide) 22 rfl ?_
    refine j_ldc2 C q518 dX0_smear_22 25 rfl ?_
    rw [show (7 : Int64) = lN 7 from rfl]
    refine j_ci C (cs_X0_57 C (ct_X0_in (h - 1) (by omega)) rfl (by omega) (by omega) (by omega) rfl (Nat.le_of_ble_eq_true rfl) dX0_smear_25) 28 rfl ?_
    rintro _ _ ⟨rfl, rfl⟩
    rw [gl_il_c (n := 7) (by decide), show 7 + 1 = 8 from rfl]
    refine b_if_ne C 33 31 dX0_smear_28 (by decide) rfl (fun c_28 => ?_) (fun c_28 => ?_)
    · obtain ⟨k, hk_, rfl⟩ := (gl_in_iff (by omega)).mp c_16
      have hDa := hG.hs.bd (2 * k) (by omega)
      have hDb := hG.hs.bd (2 * k + 1) (by omega)
      have hck : (nI k).toNatClampNeg = k := nI_clamp (by omega)
      obtain ⟨e, he, rfl⟩ := (gl_in_iff (by decide)).mp c_28
      have hce : (nI e).toNatClampNeg = e := nI_clamp (by omega)
      refine j_aload_n C dX0_smear_33 rfl 34 rfl ?_
      refine gf_X0_12 C hG.o hG.r0 dX0_smear_34 37 rfl ?_
      refine gf_X0_324 C hG.hs.o hG.hs.r3 dX0_smear_37 40 rfl ?_
      refine j_iconst (v := nI 2) C dX0_smear_40 (by decide) 41 rfl ?_
      refine j_iload_n C dX0_smear_41 rfl 42 rfl ?_
      refine n_imul C dX0_smear_42 43 rfl ?_
      refine j_iconst (v := nI 1) C dX0_smear_43 (by decide) 44 rfl ?_
      refine n_iadd C dX0_smear_44 45 rfl ?_
      refine j_aald C (by decide) hG.hs.k4 (by omega) (by decide) dX0_smear_45 46 rfl ?_
      rw [hG.hs.br (2 * k + 1) (by omega)]
      change gl_J _ _ _ _ _ _ (Value.ref _ :: _)
      refine gf_X0_148 C hDb.o hDb.r2 dX0_smear_46 49 rfl ?_
      refine j_iload_n C dX0_smear_49 rfl 50 rfl ?_
      refine j_dup2 C dX0_smear_50 rfl rfl 51 rfl ?_
      refine j_iald C hDb.k3 (by omega) (by decide) dX0_smear_51 52 rfl ?_
      refine j_iload_n C dX0_smear_52 rfl 53 rfl ?_
      refine j_ixor C dX0_smear_53 54 rfl ?_
      refine j_iast C hDb.k3 (by omega) (by decide) dX0_smear_54 55 rfl ?_
      refine j_iconst (v := b2i true) C dX0_smear_55 (by decide) 56 rfl ?_
      exact j_zret C hQ ⟨by rw [decide_eq_true ⟨c_16, c_28⟩], by rw [if_pos ⟨c_16, c_28⟩, hck, hce]⟩ (by omega) (by omega) dX0_smear_56
    · refine j_iconst (v := b2i false) C dX0_smear_31 (by decide) 32 rfl ?_
      exact j_zret C hQ ⟨by rw [decide_eq_false (fun q => by rw [c_28] at q; exact absurd q.2 (by decide))], by rw [if_neg (fun q => by rw [c_28] at q; exact absurd q.2 (by decide))]⟩ (by omega) (by omega) dX0_smear_32
/-- whether two heads agree, the newer one's log being asked -/
def gl_gO (K : Nat → Int32) (V : Nat → Int64) (n0 n1 : Nat) (t0 t1 : Nat → Int32) : Bool := gl_lk (gl_top (gl_ll (fun a e => gl_bs K V e a) n0 n0 0 [])) t0 8 && gl_lk (gl_top (gl_ll (fun a e => gl_bs K V e a) n1 (n1 - n0) n0 (gl_ll (fun a e => gl_bs K V e a) n0 n0 0 []))) t1 8
def gl_gA (I : Nat → Nat → Int32) (L : Nat → Nat → Int64) (na nb la lb : Nat) (ta ua tb ub : Nat → Int32) : Bool := if na = nb then gl_lk ta tb 8 && gl_lk ua ub 8 else if na < nb then gl_gO (I (1 + 7 + 19 * lb + 1)) (L (1 + 7 + 19 * lb + 4)) na nb ta tb else gl_gO (I (1 + 7 + 19 * la + 1)) (L (1 + 7 + 19 * la + 4)) nb na tb ta
set_option maxHeartbeats 4000000 in
set_option maxRecDepth 100000 in
theorem ct_X0_agree0 {l : Launch} {δ : gl_Del} {Λ : gl_Lay} {I : Nat → Nat → Int32} {L : Nat → Nat → Int64} {B : Nat → Nat → Bool} {R : Nat → Nat → Option Nat} {lm : Nat} {mn wn : Nat → Nat} {sn : Nat → Nat → Nat} {a b na nb la lb : Nat} (h : Nat) (hh : 7 ≤ h) (hG : gl_GL Λ R) (H : gl_gL I 1 lm mn wn sn) (hsm : ∀ k, k < lm → gl_sm I (1 + 7 + 19 * k) (I (1 + 7 + 19 * k + 1)) (L (1 + 7 + 19 * k + 4)) (mn k)) (ha : gl_DL Λ R a) (hra : a + 4 ≤ 690 ∨ a = 701) (hna : I a 3 = nI na) (hla : I a 4 = nI la) (hLa : la < lm) (hma : na ≤ mn la) (hb : gl_DL Λ R b) (hrb : b + 4 ≤ 690 ∨ b = 701) (hnb : I b 3 = nI nb) (hlb : I b 4 = nI lb) (hLb : lb < lm) (hmb : nb ≤ mn lb) (hle : na ≤ nb) : gl_Ct l δ yX0_agree (ws_ yX0_agree cX0_agree 5 ((some FieldType.boolean))) (gl_rm h 0 0) 0 0 [.ref 0, .ref a, .ref b] (Λ, I, L, B, R) (gl_Qi fun r S => r = b2i (gl_gA I L na nb la lb (I (a + 1)) (I (a + 2)) (I (b + 1)) (I (b + 2))) ∧ ∃ I', S = (Λ, I', L, B, R) ∧ (∀ c, c < 690 ∨ (695 ≤ c ∧ c ≠ 706) → I' c = I c)) := by
  refine gl_of (by decide) (Nat.le_of_ble_eq_true rfl) rfl ?_
  intro κ C hQ hlκ hδκ hnL hini
  change gl_Cx κ RX0 _ _ _ at C
  have hl6 := H.2.1
  have hL := hG.hs.lg lb (by omega)
  obtain ⟨hn9, hn4, hw10, hw1, hsn⟩ := H.2.2 lb hLb
  have hna4 := (H.2.2 la hLa).2.1
  refine j_aload_n C dX0_agree_0 rfl 1 rfl ?_
  refine gf_X0_125 C ha.o dX0_agree_1 4 rfl ?_
  rw [hna]
  refine j_aload_n C dX0_agree_4 rfl 5 rfl ?_
  refine gf_X0_125 C hb.o dX0_agree_5 8 rfl ?_
  rw [hnb]
  refine n_icmp_le C 18 11 dX0_agree_8 (by decide) rfl (by omega) (by omega) (fun c_8 => ?_) (fun c_8 => ?_)
  · refine j_aload_n C dX0_agree_18 rfl 19 rfl ?_
    refine gf_X0_125 C ha.o dX0_agree_19 22 rfl ?_
    rw [hna]
    refine j_aload_n C dX0_agree_22 rfl 23 rfl ?_
    refine gf_X0_125 C hb.o dX0_agree_23 26 rfl ?_
    rw [hnb]
    refine n_icmp_ne C 67 29 dX0_agree_26 (by decide) rfl (by omega) (by omega) (fun c_26 => ?_) (fun c_26 => ?_)
    · refine j_aload_n C dX0_agree_67 rfl 68 rfl ?_
      refine gf_X0_12 C hG.o hG.r0 dX0_agree_68 71 rfl ?_
      refine gf_X0_65 C hG.hs.o hG.hs.r0 dX0_agree_71 74 rfl ?_
      refine j_aload_n C dX0_agree_74 rfl 75 rfl ?_
      refine gf_X0_128 C hb.o dX0_agree_75 78 rfl ?_
      rw [hlb]
      refine j_aald C (by decide) hG.hs.k1 (by omega) (by decide) dX0_agree_78 79 rfl ?_
      rw [hG.hs.lr lb (by omega)]
      change gl_J _ _ _ _ _ _ (Value.ref _ :: _)
      refine j_astore_n C dX0_agree_79 (Nat.le_of_ble_eq_true rfl) (by rw [hnL]; decide) rfl 80 rfl ?_
      refine j_aload_n C dX0_agree_80 rfl 81 rfl ?_
      refine gf_X0_28 C hG.o hG.r2 dX0_agree_81 84 rfl ?_
      refine j_cv C (cs_X0_132 C (ct_X7_begin (h - 1) (by omega) hG) hG.p0 rfl (by omega) (by omega) (by omega) rfl (Nat.le_of_ble_eq_true rfl) dX0_agree_84) 87 rfl ?_
      rintro _ rfl
      obtain ⟨I1, hI1⟩ : ∃ x, x = gl_u2 (gl_u2 I 692 3 (nI 0)) 692 4 (nI 0) := ⟨_, rfl⟩
      rw [← hI1]
      have e1 : ∀ c, c ≠ 692 → I1 c = I c := fun c q2 => by rw [hI1, gl_u2_ne q2, gl_u2_ne q2]
      have hg1 : gl_gp I1 [] := by rw [hI1]; exact gl_gp_0
      refine j_aload_n C dX0_agree_87 rfl 88 rfl ?_
      refine j_aload_n C dX0_agree_88 rfl 89 rfl ?_
      refine gf_X0_28 C hG.o hG.r2 dX0_agree_89 92 rfl ?_
      refine j_iconst (v := nI 0) C dX0_agree_92 (by decide) 93 rfl ?_
      refine j_aload_n C dX0_agree_93 rfl 94 rfl ?_
      refine gf_X0_125 C ha.o dX0_agree_94 97 rfl ?_
      rw [e1 a (by omega), hna]
      refine j_cv C (cs_X0_134 C (ct_X2_blocks (I := I1) (lo := (1 + 7 + 19 * lb)) (K := (I ((1 + 7 + 19 * lb) + 1))) (V := (L ((1 + 7 + 19 * lb) + 4))) (n := mn lb) (a := 0) (b := na) (p := []) (h - 1) (by omega) hL hG (by omega) (gl_sm_fr (hsm lb hLb) (by omega) (fun r hr => e1 _ (by omega))) (by omega) hn4 (Nat.zero_le _) hg1 rfl trivial) hL.o rfl (by omega) (by omega) (by omega) rfl (Nat.le_of_ble_eq_true rfl) dX0_agree_97) 100 rfl ?_
      rintro _ ⟨I2, rfl, hf2, hg2⟩
      rw [Nat.sub_zero] at hg2
      have hinv := gl_ll_inv (f := (fun a e => gl_bs (I ((1 + 7 + 19 * lb) + 1)) (L ((1 + 7 + 19 * lb) + 4)) e a)) (b := na) na 0 [] (by omega) (Nat.zero_le _) rfl trivial
      have hlen := gl_inc_len hinv.2 (by decide) (by omega)
      refine j_aload_n C dX0_agree_100 rfl 101 rfl ?_
      refine gf_X0_28 C hG.o hG.r2 dX0_agree_101 104 rfl ?_
      refine j_aload_n C dX0_agree_104 rfl 105 rfl ?_
      refine gf_X0_50 C hG.o hG.r6 dX0_agree_105 108 rfl ?_
      refine j_iconst (v := nI 0) C dX0_agree_108 (by decide) 109 rfl ?_
      refine j_cv C (cs_X0_141 C (ct_X7_top (I := I2) (to := 706) (nt := 8) (at_ := 0) (h - 1) (by omega) hG hg2 (by omega) hG.mk (by decide) (by decide) (by decide)) hG.p0 rfl (by omega) (by omega) (by omega) rfl (Nat.le_of_ble_eq_true rfl) dX0_agree_109) 112 rfl ?_
      rintro _ ⟨I3, rfl, h3, ht3⟩
      have e3 : ∀ c, c < 690 ∨ 695 ≤ c → c ≠ 706 → I3 c = I c := fun c q1 q3 => by rw [h3 c (by omega) (by omega) q3, hf2 c (by omega), e1 c (by omega)]
      have hg3 : gl_gp I3 (gl_ll (fun a e => gl_bs (I ((1 + 7 + 19 * lb) + 1)) (L ((1 + 7 + 19 * lb) + 4)) e a) na na 0 []) := gl_gp_eq hg2 (h3 _ (by decide) (by decide) (by decide)) (h3 _ (by decide) (by decide) (by decide)) (h3 _ (by decide) (by decide) (by decide))
      refine j_aload_n C dX0_agree_112 rfl 113 rfl ?_
      refine gf_X0_50 C hG.o hG.r6 dX0_agree_113 116 rfl ?_
      refine j_iconst (v := nI 0) C dX0_agree_116 (by decide) 117 rfl ?_
      refine j_aload_n C dX0_agree_117 rfl 118 rfl ?_
      refine gf_X0_138 C ha.o ha.r0 dX0_agree_118 121 rfl ?_
      refine j_iconst (v := nI 0) C dX0_agree_121 (by decide) 122 rfl ?_
      refine j_ci C (cs_X0_317 C (ct_X0_isLike (I := I3) (x := 706) (y := a + 1) (nx := 8) (ny := 8) (p := 0) (q := 0) (h - 1) (by omega) hG.mk (by decide) (by decide) ha.k1 (by decide) (by decide)) rfl (by omega) (by omega) (by omega) rfl (Nat.le_of_ble_eq_true rfl) dX0_agree_122) 125 rfl ?_
      rintro _ _ ⟨rfl, rfl⟩
      rw [show gl_lk (fun t => I3 706 (0 + t)) (fun t => I3 (a + 1) (0 + t)) 8 = gl_lk (gl_top (gl_ll (fun a e => gl_bs (I ((1 + 7 + 19 * lb) + 1)) (L ((1 + 7 + 19 * lb) + 4)) e a) na na 0 [])) (I (a + 1)) 8 from gl_lk_congr 8 (fun t ht => by rw [ht3, pk_cpy_in (by omega) (by omega), show 0 + (0 + t - 0) = t by omega]) (fun t ht => by rw [e3 (a + 1) (by omega) (by omega), Nat.zero_add])]
      refine j_istore C dX0_agree_125 (Nat.le_of_ble_eq_true rfl) (by rw [hnL]; decide) rfl 127 rfl ?_
      refine j_aload_n C dX0_agree_127 rfl 128 rfl ?_
      refine j_aload_n C dX0_agree_128 rfl 129 rfl ?_
      refine gf_X0_28 C hG.o hG.r2 dX0_agree_129 132 rfl ?_
      refine j_aload_n C dX0_agree_132 rfl 133 rfl ?_
      refine gf_X0_125 C ha.o dX0_agree_133 136 rfl ?_
      rw [e3 a (by omega) (by omega), hna]
      refine j_aload_n C dX0_agree_136 rfl 137 rfl ?_
      refine gf_X0_125 C hb.o dX0_agree_137 140 rfl ?_
      rw [e3 b (by omega) (by omega), hnb]
      refine j_cv C (cs_X0_134 C (ct_X2_blocks (I := I3) (lo := (1 + 7 + 19 * lb)) (K := (I ((1 + 7 + 19 * lb) + 1))) (V := (L ((1 + 7 + 19 * lb) + 4))) (n := mn lb) (a := na) (b := nb) (p := (gl_ll (fun a e => gl_bs (I ((1 + 7 + 19 * lb) + 1)) (L ((1 + 7 + 19 * lb) + 4)) e a) na na 0 [])) (h - 1) (by omega) hL hG (by omega) (gl_sm_fr (hsm lb hLb) (by omega) (fun r hr => e3 _ (by omega) (by omega))) hmb hn4 (by omega) hg3 hinv.1 hinv.2) hL.o rfl (by omega) (by omega) (by omega) rfl (Nat.le_of_ble_eq_true rfl) dX0_agree_140) 143 rfl ?_
      rintro _ ⟨I4, rfl, hf4, hg4⟩
      have hinv4 := gl_ll_inv (f := (fun a e => gl_bs (I ((1 + 7 + 19 * lb) + 1)) (L ((1 + 7 + 19 * lb) + 4)) e a)) (b := nb) (nb - na) na (gl_ll (fun a e => gl_bs (I ((1 + 7 + 19 * lb) + 1)) (L ((1 + 7 + 19 * lb) + 4)) e a) na na 0 []) (Nat.le_refl _) (by omega) hinv.1 hinv.2
      have hlen4 := gl_inc_len hinv4.2 (by decide) (by omega)
      refine j_aload_n C dX0_agree_143 rfl 144 rfl ?_
      refine gf_X0_28 C hG.o hG.r2 dX0_agree_144 147 rfl ?_
      refine j_aload_n C dX0_agree_147 rfl 148 rfl ?_
      refine gf_X0_50 C hG.o hG.r6 dX0_agree_148 151 rfl ?_
      refine j_iconst (v := nI 0) C dX0_agree_151 (by decide) 152 rfl ?_
      refine j_cv C (cs_X0_141 C (ct_X7_top (I := I4) (to := 706) (nt := 8) (at_ := 0) (h - 1) (by omega) hG hg4 (by omega) hG.mk (by decide) (by decide) (by decide)) hG.p0 rfl (by omega) (by omega) (by omega) rfl (Nat.le_of_ble_eq_true rfl) dX0_agree_152) 155 rfl ?_
      rintro _ ⟨I5, rfl, h5, ht5⟩
      have e5 : ∀ c, c < 690 ∨ (695 ≤ c ∧ c ≠ 706) → I5 c = I c := fun c q1 => by rw [h5 c (by omega) (by omega) (by omega), hf4 c (by omega), e3 c (by omega) (by omega)]
      refine j_iload C dX0_agree_155 rfl 157 rfl ?_
      refine b_if_eq C 180 160 dX0_agree_157 (by decide) rfl (fun c_157 => ?_) (fun c_157 => ?_)
      · refine j_iconst (v := b2i false) C dX0_agree_180 (by decide) 181 rfl ?_
        exact j_zret C hQ ⟨by rw [gl_gA, if_neg c_26, if_pos (by omega), gl_gO, c_157]; rfl, _, rfl, e5⟩ (by omega) (by omega) dX0_agree_181
      · refine j_aload_n C dX0_agree_160 rfl 161 rfl ?_
        refine gf_X0_50 C hG.o hG.r6 dX0_agree_161 164 rfl ?_
        refine j_iconst (v := nI 0) C dX0_agree_164 (by decide) 165 rfl ?_
        refine j_aload_n C dX0_agree_165 rfl 166 rfl ?_
        refine gf_X0_138 C hb.o hb.r0 dX0_agree_166 169 rfl ?_
        refine j_iconst (v := nI 0) C dX0_agree_169 (by decide) 170 rfl ?_
        refine j_ci C (cs_X0_317 C (ct_X0_isLike (I := I5) (x := 706) (y := b + 1) (nx := 8) (ny := 8) (p := 0) (q := 0) (h - 1) (by omega) hG.mk (by decide) (by decide) hb.k1 (by decide) (by decide)) rfl (by omega) (by omega) (by omega) rfl (Nat.le_of_ble_eq_true rfl) dX0_agree_170) 173 rfl ?_
        rintro _ _ ⟨rfl, rfl⟩
        rw [show gl_lk (fun t => I5 706 (0 + t)) (fun t => I5 (b + 1) (0 + t)) 8 = gl_lk (gl_top (gl_ll (fun a e => gl_bs (I ((1 + 7 + 19 * lb) + 1)) (L ((1 + 7 + 19 * lb) + 4)) e a) nb (nb - na) na (gl_ll (fun a e => gl_bs (I ((1 + 7 + 19 * lb) + 1)) (L ((1 + 7 + 19 * lb) + 4)) e a) na na 0 []))) (I (b + 1)) 8 from gl_lk_congr 8 (fun t ht => by rw [ht5, pk_cpy_in (by omega) (by omega), show 0 + (0 + t - 0) = t by omega]) (fun t ht => by rw [e5 (b + 1) (by omega), Nat.zero_add])]
        refine b_if_eq C 180 176 dX0_agree_173 (by decide) rfl (fun c_173 => ?_) (fun c_173 => ?_)
        · refine j_iconst (v := b2i false) C dX0_agree_180 (by decide) 181 rfl ?_
          exact j_zret C hQ ⟨by rw [gl_gA, if_neg c_26, if_pos (by omega), gl_gO, c_157, c_173]; rfl, _, rfl, e5⟩ (by omega) (by omega) dX0_agree_181
        · refine j_iconst (v := b2i true) C dX0_agree_176 (by decide) 177 rfl ?_
          refine j_goto (tgt := 181) C dX0_agree_177 (by decide) ?_
          exact j_zret C hQ ⟨by rw [gl_gA, if_neg c_26, if_pos (by omega), gl_gO, c_157, c_173]; rfl, _, rfl, e5⟩ (by omega) (by omega) dX0_agree_181
    · refine j_aload_n C dX0_agree_29 rfl 30 rfl ?_
      refine gf_X0_138 C ha.o ha.r0 dX0_agree_30 33 rfl ?_
      refine j_iconst (v := nI 0) C dX0_agree_33 (by decide) 34 rfl ?_
      refine j_aload_n C dX0_agree_34 rfl 35 rfl ?_
      refine gf_X0_138 C hb.o hb.r0 dX0_agree_35 38 rfl ?_
      refine j_iconst (v := nI 0) C dX0_agree_38 (by decide) 39 rfl ?_
      refine j_ci C (cs_X0_317 C (ct_X0_isLike (I := I) (x := a + 1) (y := b + 1) (nx := 8) (ny := 8) (p := 0) (q := 0) (h - 1) (by omega) ha.k1 (by decide) (by decide) hb.k1 (by decide) (by decide)) rfl (by omega) (by omega) (by omega) rfl (Nat.le_of_ble_eq_true rfl) dX0_agree_39) 42 rfl ?_
      rintro _ _ ⟨rfl, rfl⟩
      rw [show (fun t => I (a + 1) (0 + t)) = I (a + 1) by funext t; rw [Nat.zero_add], show (fun t => I (b + 1) (0 + t)) = I (b + 1) by funext t; rw [Nat.zero_add]]
      refine b_if_eq C 65 45 dX0_agree_42 (by decide) rfl (fun c_42 => ?_) (fun c_42 => ?_)
      · refine j_iconst (v := b2i false) C dX0_agree_65 (by decide) 66 rfl ?_
        exact j_zret C hQ ⟨by rw [gl_gA, if_pos c_26, c_42]; rfl, _, rfl, fun _ _ => rfl⟩ (by omega) (by omega) dX0_agree_66
      · refine j_aload_n C dX0_agree_45 rfl 46 rfl ?_
        refine gf_X0_144 C ha.o ha.r1 dX0_agree_46 49 rfl ?_
        refine j_iconst (v := nI 0) C dX0_agree_49 (by decide) 50 rfl ?_
        refine j_aload_n C dX0_agree_50 rfl 51 rfl ?_
        refine gf_X0_144 C hb.o hb.r1 dX0_agree_51 54 rfl ?_
        refine j_iconst (v := nI 0) C dX0_agree_54 (by decide) 55 rfl ?_
        refine j_ci C (cs_X0_317 C (ct_X0_isLike (I := I) (x := a + 2) (y := b + 2) (nx := 8) (ny := 8) (p := 0) (q := 0) (h - 1) (by omega) ha.k2 (by decide) (by decide) hb.k2 (by decide) (by decide)) rfl (by omega) (by omega) (by omega) rfl (Nat.le_of_ble_eq_true rfl) dX0_agree_55) 58 rfl ?_
        rintro _ _ ⟨rfl, rfl⟩
        rw [show (fun t => I (a + 2) (0 + t)) = I (a + 2) by funext t; rw [Nat.zero_add], show (fun t => I (b + 2) (0 + t)) = I (b + 2) by funext t; rw [Nat.zero_add]]
        refine b_if_eq C 65 61 dX0_agree_58 (by decide) rfl (fun c_58 => ?_) (fun c_58 => ?_)
        · refine j_iconst (v := b2i false) C dX0_agree_65 (by decide) 66 rfl ?_
          exact j_zret C hQ ⟨by rw [gl_gA, if_pos c_26, c_42, c_58]; rfl, _, rfl, fun _ _ => rfl⟩ (by omega) (by omega) dX0_agree_66
        · refine j_iconst (v := b2i true) C dX0_agree_61 (by decide) 62 rfl ?_
          refine j_goto (tgt := 66) C dX0_agree_62 (by decide) ?_
          exact j_zret C hQ ⟨by rw [gl_gA, if_pos c_26, c_42, c_58]; rfl, _, rfl, fun _ _ => rfl⟩ (by omega) (by omega) dX0_agree_66
  · exact absurd c_8 (by omega)
theorem gl_lk_symm {f g : Nat → Int32} : ∀ n, gl_lk f g n = gl_lk g f n
  | 0 => rfl
  | n + 1 => by
    unfold gl_lk
    rw [gl_lk_symm n]
    congr 1
    exact decide_eq_decide.mpr ⟨Eq.symm, Eq.symm⟩
theorem gl_gA_symm {I : Nat → Nat → Int32} {L : Nat → Nat → Int64} {na nb la lb : Nat} {ta ua tb ub : Nat → Int32} (h : nb < na) : gl_gA I L nb na lb la tb ub ta ua = gl_gA I L na nb la lb ta ua tb ub := by
  unfold gl_gA
  rw [if_neg (by omega), if_pos h, if_neg (by omega), if_neg (by omega)]
set_option maxHeartbeats 4000000 in
set_option maxRecDepth 100000 in
theorem ct_X0_agree {l : Launch} {δ : gl_Del} {Λ : gl_Lay} {I : Nat → Nat → Int32} {L : Nat → Nat → Int64} {B : Nat → Nat → Bool} {R : Nat → Nat → Option Nat} {lm : Nat} {mn wn : Nat → Nat} {sn : Nat → Nat → Nat} {a b na nb la lb : Nat} (h : Nat) (hh : 8 ≤ h) (hG : gl_GL Λ R) (H : gl_gL I 1 lm mn wn sn) (hsm : ∀ k, k < lm → gl_sm I (1 + 7 + 19 * k) (I (1 + 7 + 19 * k + 1)) (L (1 + 7 + 19 * k + 4)) (mn k)) (ha : gl_DL Λ R a) (hra : a + 4 ≤ 690 ∨ a = 701) (hna : I a 3 = nI na) (hla : I a 4 = nI la) (hLa : la < lm) (hma : na ≤ mn la) (hb : gl_DL Λ R b) (hrb : b + 4 ≤ 690 ∨ b = 701) (hnb : I b 3 = nI nb) (hlb : I b 4 = nI lb) (hLb : lb < lm) (hmb : nb ≤ mn lb) : gl_Ct l δ yX0_agree (ws_ yX0_agree cX0_agree 5 ((some FieldType.boolean))) (gl_rm h 0 0) 0 0 [.ref 0, .ref a, .ref b] (Λ, I, L, B, R) (gl_Qi fun r S => r = b2i (gl_gA I L na nb la lb (I (a + 1)) (I (a + 2)) (I (b + 1)) (I (b + 2))) ∧ ∃ I', S = (Λ, I', L, B, R) ∧ (∀ c, c < 690 ∨ (695 ≤ c ∧ c ≠ 706) → I' c = I c)) := by
  rcases Nat.lt_or_ge nb na with hlt | hge
  · refine gl_of (by decide) (Nat.le_of_ble_eq_true rfl) rfl ?_
    intro κ C hQ hlκ hδκ hnL hini
    change gl_Cx κ RX0 _ _ _ at C
    have hl6 := H.2.1
    have hna4 := (H.2.2 la hLa).2.1
    have hnb4 := (H.2.2 lb hLb).2.1
    refine j_aload_n C dX0_agree_0 rfl 1 rfl ?_
    refine gf_X0_125 C ha.o dX0_agree_1 4 rfl ?_
    rw [hna]
    refine j_aload_n C dX0_agree_4 rfl 5 rfl ?_
    refine gf_X0_125 C hb.o dX0_agree_5 8 rfl ?_
    rw [hnb]
    refine n_icmp_le C 18 11 dX0_agree_8 (by decide) rfl (by omega) (by omega) (fun c_8 => ?_) (fun c_8 => ?_)
    · exact absurd c_8 (by omega)
    · refine j_aload_n C dX0_agree_11 rfl 12 rfl ?_
      refine j_aload_n C dX0_agree_12 rfl 13 rfl ?_
      refine j_aload_n C dX0_agree_13 rfl 14 rfl ?_
      refine j_ci C (cs_X0_313 C (ct_X0_agree0 (a := b) (b := a) (na := nb) (nb := na) (la := lb) (lb := la) (h - 1) (by omega) hG H hsm hb hrb hnb hlb hLb hmb ha hra hna hla hLa hma (by omega)) hG.o rfl (by omega) (by omega) (by omega) rfl (Nat.le_of_ble_eq_true rfl) dX0_agree_14) 17 rfl ?_
      rintro _ _ ⟨rfl, I1, rfl, h1⟩
      rw [gl_gA_symm hlt]
      exact j_zret C hQ ⟨rfl, _, rfl, h1⟩ (by omega) (by omega) dX0_agree_17
  · exact ct_X0_agree0 h (by omega) hG H hsm ha hra hna hla hLa hma hb hrb hnb hlb hLb hmb hge
