/-! MODULE GlassLog, proofs: isRight of spans and of growth (by gen78.py) -/
set_option maxRecDepth 100000
set_option maxHeartbeats 4000000 in
set_option maxRecDepth 100000 in
theorem ct_X11_isRight_10 {l : Launch} {δ : gl_Del} {N : Nat} {sh : Nat → Nat × Nat} {I : Nat → Nat → Int32} {L : Nat → Nat → Int64} {B : Nat → Nat → Bool} {R : Nat → Nat → Option Nat} {p st kl vl a : Nat} {v : Nat → Int32} {n8 m nn fa : Nat} {stp ks : Nat → Int32} {vs : Nat → Int64} (h : Nat) (hh : 7 ≤ h) (hG : gl_GL (N, sh) R) (hN : 707 ≤ N) (hP : gl_pf (N, sh) I L R p st kl vl 10 v n8 stp m ks vs) (hpN : p < N) (hp7 : 707 ≤ p) (hsN : st < N) (hs7 : 707 ≤ st) (hn8 : n8 < 2 ^ 24) (hv0 : v 0 = nI nn) (hv1 : v 1 = nI fa) (hnn : nn ≤ 400) (hkr : kl < N ∧ vl < N ∧ 707 ≤ kl) (hm : m < 2 ^ 24) (hfm : fa + m ≤ nn) (hA : gl_DL (N, sh) R a) (ha : a + 4 ≤ 690) (hcnt : ((gl_bls fa fa 0).length + (gl_bls nn (nn - (fa + m)) (fa + m)).length) * 8 ≤ n8) : gl_Ct l δ yX11_isRight (ws_ yX11_isRight cX11_isRight 8 ((some FieldType.boolean))) (gl_rm h 1 8) 1 8 [.ref p, .ref 690, .ref 692, .ref a, .null] ((N, sh), I, L, B, R) (gl_Qi fun r S => r = b2i (decide (I a 3 = nI nn) && gl_lk (gl_spT (fun u t => stp (u * 8 + t)) ks vs fa (fa + m) nn) (I (a + 1)) 8) ∧ ∃ N' sh' I' L' B' R', S = ((N', sh'), I', L', B', R') ∧ gl_xt 690 695 N N' sh sh' I I' L L' B B' R R') := by
  refine gl_of (by decide) (Nat.le_of_ble_eq_true rfl) rfl ?_
  intro κ C hQ hlκ hδκ hnL hini
  change gl_Cx κ RX11 _ _ _ at C
  have hcm : fa + m ≤ 400 := by omega
  have h60 := hP.2.2.2.2.2 (Or.inl rfl)
  have hkN := hkr.1
  have hvN := hkr.2.1
  have hG1 : gl_GL (N + 1, va_up sh N (0, 8)) (va_up R N (fun _ => none)) := hG.new hN
  have hA1 : gl_DL (N + 1, va_up sh N (0, 8)) (va_up R N (fun _ => none)) a := hA.of_eq (fun c q1 q2 => gl_up_ne (by omega)) (fun c j q1 q2 => by rw [gl_up_ne (by omega)])
  have hP1 : gl_pf (N + 1, va_up sh N (0, 8)) I (va_up L N (fun _ => 0)) (va_up R N (fun _ => none)) p st kl vl 10 v n8 stp m ks vs := hP.of_eq ⟨gl_up_ne (by omega), rfl, gl_up_ne (by omega)⟩ ⟨gl_up_ne (by omega), rfl⟩ (fun _ => ⟨gl_up_ne (by omega), rfl, gl_up_ne (by omega), gl_up_ne (by omega)⟩)
  have h6 := hP1.2.2.2.2.2 (Or.inl rfl)
  have hinv0 := gl_ls_inv (row := (fun u t => stp (u * 8 + t))) (b := fa) fa 0 0 [] (by omega) (Nat.zero_le _) rfl trivial
  have hinv1 := gl_le_inv (K := ks) (V := vs) (a := fa) m 0 (gl_ls (fun u t => stp (u * 8 + t)) fa fa 0 0 []) (by rw [hinv0.1]; rfl) hinv0.2
  have hsz1 : gl_sz (gl_le ks vs fa m 0 (gl_ls (fun u t => stp (u * 8 + t)) fa fa 0 0 [])) = fa + m := by rw [hinv1.1, Nat.add_zero]
  have hin1 := hinv1.2
  have end_ : ∀ I3 : Nat → Nat → Int32, I a 3 = nI nn → (∀ c, c < 690 ∨ 695 ≤ c → c ≠ N → I3 c = I c) → gl_gp I3 (gl_le ks vs fa m 0 (gl_ls (fun u t => stp (u * 8 + t)) fa fa 0 0 [])) → gl_J κ 1 8 ((N + 1, va_up sh N (0, 8)), I3, (va_up L N (fun _ => 0)), (va_up B N (fun _ => false)), (va_up R N (fun _ => none))) 84 [some (.ref p), some (.ref 690), some (.ref 692), some (.ref a), some .null, some (.ref N), some (.int (nI (gl_bls fa fa 0).length)), some (.int (nI m))] [] := by
    intro I3 hca hF hg3
    refine j_aload_n C dX11_isRight_84 rfl 85 rfl ?_
    refine j_aload_n C dX11_isRight_85 rfl 86 rfl ?_
    refine j_aload_n C dX11_isRight_86 rfl 87 rfl ?_
    refine gf_X11_27_10 C hP1.1 dX11_isRight_87 90 rfl ?_
    rw [show I3 p 1 = v 1 from (congrFun (hF p (by omega) (by omega)) 1).trans (hP.2.2.2.1 1 (Or.inl (by decide))), hv1]
    refine j_aload_n C dX11_isRight_90 rfl 91 rfl ?_
    refine gf_X11_9_10 C hP1.1 (c' := kl) h6.1 dX11_isRight_91 94 rfl ?_
    refine j_alen C (by decide) h6.2.2.1 dX11_isRight_94 95 rfl ?_
    refine n_iadd C dX11_isRight_95 96 rfl ?_
    refine j_aload_n C dX11_isRight_96 rfl 97 rfl ?_
    refine gf_X11_21_10 C hP1.1 dX11_isRight_97 100 rfl ?_
    rw [show I3 p 0 = v 0 from (congrFun (hF p (by omega) (by omega)) 0).trans (hP.2.2.2.1 0 (Or.inl (by decide))), hv0]
    refine j_iload C dX11_isRight_100 rfl 102 rfl ?_
    refine j_ci C (cs_X11_30_10 C (ct_X10_piles_10 (I := I3) (p := p) (st := st) (n8 := n8) (a := fa + m) (b := nn) (fr := (gl_bls fa fa 0).length) (p0 := (gl_le ks vs fa m 0 (gl_ls (fun u t => stp (u * 8 + t)) fa fa 0 0 []))) (row := (fun u t => stp (u * 8 + t))) (h - 1) (by omega) hP1.1 hP1.2.1 hP1.2.2.1 (by omega) (by omega) hG1 hfm hnn hg3 hsz1 hin1 hcnt (fun u hu t ht => by rw [hF st (by omega) (by omega)]; exact hP.2.2.2.2.1 (u * 8 + t) (by omega))) (xx := 0) hP1.1 rfl (by omega) (by omega) (by omega) rfl (Nat.le_of_ble_eq_true rfl) dX11_isRight_102) 105 rfl ?_
    rintro _ _ ⟨rfl, I4, rfl, hf4, hg4⟩
    refine j_istore C dX11_isRight_105 (Nat.le_of_ble_eq_true rfl) (by rw [hnL]; decide) rfl 107 rfl ?_
    refine j_aload_n C dX11_isRight_107 rfl 108 rfl ?_
    refine j_aload C dX11_isRight_108 rfl 110 rfl ?_
    refine j_iconst (v := nI 0) C dX11_isRight_110 (by decide) 111 rfl ?_
    have hinv := gl_ls_inv (row := (fun u t => stp (u * 8 + t))) (b := nn) (nn - (fa + m)) (fa + m) (gl_bls fa fa 0).length (gl_le ks vs fa m 0 (gl_ls (fun u t => stp (u * 8 + t)) fa fa 0 0 [])) (Nat.le_refl _) hfm hsz1 hin1
    have hlen4 := gl_inc_len hinv.2 (by decide) (by omega)
    refine j_cv C (cs_X11_48 C (ct_X7_top (I := I4) (to := N) (nt := 8) (at_ := 0) (h - 1) (by omega) hG1 hg4 (by omega) gl_up_eq (by omega) (by decide) (by decide)) hG1.p0 rfl (by omega) (by omega) (by omega) rfl (Nat.le_of_ble_eq_true rfl) dX11_isRight_111) 114 rfl ?_
    rintro _ ⟨I5, rfl, h5, ht5⟩
    refine j_aload C dX11_isRight_114 rfl 116 rfl ?_
    refine j_iconst (v := nI 0) C dX11_isRight_116 (by decide) 117 rfl ?_
    refine j_aload_n C dX11_isRight_117 rfl 118 rfl ?_
    refine gf_X11_52 C (x := 0) hA1.o (c' := a + 1) hA1.r0 dX11_isRight_118 121 rfl ?_
    refine j_iconst (v := nI 0) C dX11_isRight_121 (by decide) 122 rfl ?_
    refine j_ci C (cs_X11_54 C (ct_X0_isLike (I := I5) (x := N) (y := a + 1) (nx := 8) (ny := 8) (p := 0) (q := 0) (h - 1) (by omega) gl_up_eq (by decide) (by decide) hA1.k1 (by decide) (by decide)) rfl (by omega) (by omega) (by omega) rfl (Nat.le_of_ble_eq_true rfl) dX11_isRight_122) 125 rfl ?_
    rintro _ _ ⟨rfl, rfl⟩
    have hF5 : (∀ c, c < 690 ∨ 695 ≤ c → c ≠ N → I5 c = I c) := fun c q1 q2 => by rw [h5 c (by omega) (by omega) q2, hf4 c q1]; exact hF c q1 q2
    refine j_zret C hQ ⟨?_, _, _, _, _, _, _, rfl, by omega, fun c hc => ⟨gl_up_ne (by omega), gl_up_ne (by omega), gl_up_ne (by omega), gl_up_ne (by omega), fun q_ => hF5 c q_ (by omega)⟩⟩ (by omega) (by omega) dX11_isRight_125
    rw [decide_eq_true hca, Bool.true_and]
    congr 1
    refine gl_lk_congr 8 (fun t ht => ?_) (fun t ht => ?_)
    · rw [ht5, pk_cpy_in (by omega) (by omega), gl_spT, show fa + m - fa = m by omega]
      congr 1; omega
    · rw [hF5 (a + 1) (by omega) (by omega), Nat.zero_add]
  have loop : I a 3 = nI nn → ∀ (c j : Nat) (I3 : Nat → Nat → Int32) (p1 : gl_Pl), j + c = m → (∀ c, c < 690 ∨ 695 ≤ c → c ≠ N → I3 c = I c) → gl_gp I3 p1 → gl_sz p1 = fa + j → gl_inc 0 p1 → gl_le ks vs fa c j p1 = (gl_le ks vs fa m 0 (gl_ls (fun u t => stp (u * 8 + t)) fa fa 0 0 [])) → gl_J κ 1 8 ((N + 1, va_up sh N (0, 8)), I3, (va_up L N (fun _ => 0)), (va_up B N (fun _ => false)), (va_up R N (fun _ => none))) 39 [some (.ref p), some (.ref 690), some (.ref 692), some (.ref a), some .null, some (.ref N), some (.int (nI (gl_bls fa fa 0).length)), some (.int (nI j))] [] := by
    intro hca c
    induction c with
    | zero =>
      intro j I3 p1 hj hF hg1 hs1 hi1 htg
      obtain rfl : j = m := by omega
      refine j_iload C dX11_isRight_39 rfl 41 rfl ?_
      refine j_aload_n C dX11_isRight_41 rfl 42 rfl ?_
      refine gf_X11_9_10 C hP1.1 (c' := kl) h6.1 dX11_isRight_42 45 rfl ?_
      refine j_alen C (by decide) h6.2.2.1 dX11_isRight_45 46 rfl ?_
      refine n_icmp_ge C 84 49 dX11_isRight_46 (by decide) rfl (by omega) (by omega) (fun c_46 => ?_) (fun c_46 => ?_)
      · exact end_ I3 hca hF (by rw [← htg]; exact hg1)
      · exact absurd c_46 (by omega)
    | succ c ih =>
      intro j I3 p1 hj hF hg1 hs1 hi1 htg
      have hlen := gl_inc_len hi1 (by decide) (by omega)
      refine j_iload C dX11_isRight_39 rfl 41 rfl ?_
      refine j_aload_n C dX11_isRight_41 rfl 42 rfl ?_
      refine gf_X11_9_10 C hP1.1 (c' := kl) h6.1 dX11_isRight_42 45 rfl ?_
      refine j_alen C (by decide) h6.2.2.1 dX11_isRight_45 46 rfl ?_
      refine n_icmp_ge C 84 49 dX11_isRight_46 (by decide) rfl (by omega) (by omega) (fun c_46 => ?_) (fun c_46 => ?_)
      · exact absurd c_46 (by omega)
      · refine j_aload_n C dX11_isRight_49 rfl 50 rfl ?_
        refine j_aload_n C dX11_isRight_50 rfl 51 rfl ?_
        refine gf_X11_9_10 C hP1.1 (c' := kl) h6.1 dX11_isRight_51 54 rfl ?_
        refine j_iload C dX11_isRight_54 rfl 56 rfl ?_
        refine j_iald C h6.2.2.1 (by omega) (by omega) dX11_isRight_56 57 rfl ?_
        rw [show I3 kl j = ks j from (congrFun (hF kl (by omega) (by omega)) j).trans (h60.2.2.2.2.2 j (by omega)).1]
        refine j_aload_n C dX11_isRight_57 rfl 58 rfl ?_
        refine gf_X11_34_10 C hP1.1 (c' := vl) h6.2.1 dX11_isRight_58 61 rfl ?_
        refine j_iload C dX11_isRight_61 rfl 63 rfl ?_
        refine j_lald C h6.2.2.2.1 (by omega) (by omega) dX11_isRight_63 64 rfl ?_
        rw [show (va_up L N (fun _ => 0)) vl j = vs j from (congrFun (gl_up_ne (by omega)) j).trans (h60.2.2.2.2.2 j (by omega)).2]
        refine j_aload C dX11_isRight_64 rfl 66 rfl ?_
        refine j_iconst (v := nI 0) C dX11_isRight_66 (by decide) 67 rfl ?_
        refine j_cv C (cs_X11_38 C (ct_X6_entry (I := I3) (to := N) (nt := 8) (at_ := 0) (h - 1) (by omega) hG1.mx gl_up_eq (by omega) (by decide) (by decide)) hG1.mx.1 rfl (by omega) (by omega) (by omega) rfl (Nat.le_of_ble_eq_true rfl) dX11_isRight_67) 70 rfl ?_
        rintro _ rfl
        refine j_aload_n C dX11_isRight_70 rfl 71 rfl ?_
        refine j_iconst (v := nI 0) C dX11_isRight_71 (by decide) 72 rfl ?_
        refine j_aload C dX11_isRight_72 rfl 74 rfl ?_
        refine j_iconst (v := nI 0) C dX11_isRight_74 (by decide) 75 rfl ?_
        refine j_cv C (cs_X11_44 C (ct_X7_add (p := p1) (e := 0) (x := N) (nx_ := 8) (at_ := 0) (h - 1) (by omega) hG1 (gl_gp_eq hg1 (by rw [gl_up_ne (by omega), gl_m1_o (by decide) (by decide)]) (by rw [gl_up_ne (by omega), gl_m1_o (by decide) (by decide)]) (by rw [gl_up_ne (by omega), gl_m1_o (by decide) (by decide)])) (by omega) (by omega) gl_up_eq (by decide) (by decide)) hG1.p0 rfl (by omega) (by omega) (by omega) rfl (Nat.le_of_ble_eq_true rfl) dX11_isRight_75) 78 rfl ?_
        rintro _ ⟨I4, rfl, hf4, hg4⟩
        refine n_iinc C dX11_isRight_78 rfl (by rw [hnL]; decide) rfl 81 rfl ?_
        refine j_goto (tgt := 39) C dX11_isRight_81 (by decide) ?_
        rw [hs1, gl_lay_congr (r' := gl_entry (ks j) (vs j)) (fun t ht => by rw [gl_up_eq, pk_cpy_in (by omega) (by omega)]; congr 1; omega)] at hg4
        refine ih (j + 1) I4 _ (by omega) (fun c q1 q2 => ?_) hg4 (by rw [gl_sz_lay, hs1]; omega) ?_ ?_
        · rw [hf4 c q1, gl_up_ne q2, gl_m1_o (by omega) (by omega)]; exact hF c q1 q2
        · rw [← hs1]
          exact gl_inc_lay hi1 (Nat.mod_one _)
        · rw [← htg]; rfl
  refine j_aload_n C dX11_isRight_0 rfl 1 rfl ?_
  refine gf_X11_15 C hA.o dX11_isRight_1 4 rfl ?_
  refine j_aload_n C dX11_isRight_4 rfl 5 rfl ?_
  refine gf_X11_21_10 C hP.1 dX11_isRight_5 8 rfl ?_
  rw [hP.2.2.2.1 0 (Or.inl (by decide)), hv0]
  refine j_icmp_eq C 13 11 dX11_isRight_8 (by decide) rfl (fun c_8 => ?_) (fun c_8 => ?_)
  · refine j_bipush (v := nI 8) C dX11_isRight_13 (by decide) 15 rfl ?_
    refine j_newarrI C (by decide) (by omega) (by omega) dX11_isRight_15 17 rfl ?_
    refine j_astore C dX11_isRight_17 (Nat.le_of_ble_eq_true rfl) (by rw [hnL]; decide) rfl 19 rfl ?_
    refine j_aload_n C dX11_isRight_19 rfl 20 rfl ?_
    refine j_cv C (cs_X11_22 C (ct_X7_begin (h - 1) (by omega) hG1) hG1.p0 rfl (by omega) (by omega) (by omega) rfl (Nat.le_of_ble_eq_true rfl) dX11_isRight_20) 23 rfl ?_
    rintro _ rfl
    refine j_aload_n C dX11_isRight_23 rfl 24 rfl ?_
    refine j_aload_n C dX11_isRight_24 rfl 25 rfl ?_
    refine j_iconst (v := nI 0) C dX11_isRight_25 (by decide) 26 rfl ?_
    refine j_aload_n C dX11_isRight_26 rfl 27 rfl ?_
    refine gf_X11_27_10 C hP1.1 dX11_isRight_27 30 rfl ?_
    rw [show (gl_u2 (gl_u2 (va_up I N (fun _ => 0)) 692 3 (nI 0)) 692 4 (nI 0)) p 1 = v 1 by simp (disch := omega) only [gl_u2_eq, gl_u2_ne, gl_up_eq, gl_up_ne]; exact hP.2.2.2.1 1 (Or.inl (by decide)), hv1]
    refine j_iconst (v := nI 0) C dX11_isRight_30 (by decide) 31 rfl ?_
    refine j_ci C (cs_X11_30_10 C (ct_X10_piles_10 (I := (gl_u2 (gl_u2 (va_up I N (fun _ => 0)) 692 3 (nI 0)) 692 4 (nI 0))) (p := p) (st := st) (n8 := n8) (a := 0) (b := fa) (fr := 0) (p0 := []) (row := (fun u t => stp (u * 8 + t))) (h - 1) (by omega) hP1.1 hP1.2.1 hP1.2.2.1 (by omega) (by omega) hG1 (by omega) (by omega) gl_gp_0 rfl trivial (by rw [Nat.sub_zero, Nat.zero_add]; omega) (fun u hu t ht => by simp (disch := omega) only [gl_u2_eq, gl_u2_ne, gl_up_eq, gl_up_ne]; exact hP.2.2.2.2.1 (u * 8 + t) (by omega))) (xx := 0) hP1.1 rfl (by omega) (by omega) (by omega) rfl (Nat.le_of_ble_eq_true rfl) dX11_isRight_31) 34 rfl ?_
    rintro _ _ ⟨rfl, I2, rfl, hf2, hg2⟩
    rw [Nat.sub_zero] at hg2
    rw [show nI (0 + (gl_bls fa (fa - 0) 0).length) = nI (gl_bls fa fa 0).length by rw [Nat.sub_zero, Nat.zero_add]]
    refine j_istore C dX11_isRight_34 (Nat.le_of_ble_eq_true rfl) (by rw [hnL]; decide) rfl 36 rfl ?_
    refine j_iconst (v := nI 0) C dX11_isRight_36 (by decide) 37 rfl ?_
    refine j_istore C dX11_isRight_37 (Nat.le_of_ble_eq_true rfl) (by rw [hnL]; decide) rfl 39 rfl ?_
    refine loop c_8 m 0 I2 (gl_ls (fun u t => stp (u * 8 + t)) fa fa 0 0 []) (by omega) (fun c q1 q2 => ?_) hg2 (by rw [hinv0.1]; rfl) hinv0.2 rfl
    rw [hf2 c q1]
    simp (disch := omega) only [gl_u2_eq, gl_u2_ne, gl_up_eq, gl_up_ne]
  · refine j_iconst (v := b2i false) C dX11_isRight_11 (by decide) 12 rfl ?_
    exact j_zret C hQ ⟨by rw [decide_eq_false c_8]; rfl, _, _, _, _, _, _, rfl, gl_xt.rf⟩ (by omega) (by omega) dX11_isRight_12
set_option maxHeartbeats 4000000 in
set_option maxRecDepth 100000 in
theorem ct_X11_isRight_11 {l : Launch} {δ : gl_Del} {N : Nat} {sh : Nat → Nat × Nat} {I : Nat → Nat → Int32} {L : Nat → Nat → Int64} {B : Nat → Nat → Bool} {R : Nat → Nat → Option Nat} {p st kl vl a : Nat} {v : Nat → Int32} {n8 m nn fa : Nat} {stp ks : Nat → Int32} {vs : Nat → Int64} (h : Nat) (hh : 7 ≤ h) (hG : gl_GL (N, sh) R) (hN : 707 ≤ N) (hP : gl_pf (N, sh) I L R p st kl vl 11 v n8 stp m ks vs) (hpN : p < N) (hp7 : 707 ≤ p) (hsN : st < N) (hs7 : 707 ≤ st) (hn8 : n8 < 2 ^ 24) (hv0 : v 0 = nI nn) (hv1 : v 1 = nI fa) (hnn : nn ≤ 400) (hkr : kl < N ∧ vl < N ∧ 707 ≤ kl) (hm : m < 2 ^ 24) (hfm : fa + m ≤ nn) (hA : gl_DL (N, sh) R a) (ha : a + 4 ≤ 690) (hcnt : ((gl_bls fa fa 0).length + (gl_bls nn (nn - (fa + m)) (fa + m)).length) * 8 ≤ n8) : gl_Ct l δ yX11_isRight (ws_ yX11_isRight cX11_isRight 8 ((some FieldType.boolean))) (gl_rm h 1 8) 1 8 [.ref p, .ref 690, .ref 692, .ref a, .null] ((N, sh), I, L, B, R) (gl_Qi fun r S => r = b2i (decide (I a 3 = nI nn) && gl_lk (gl_spT (fun u t => stp (u * 8 + t)) ks vs fa (fa + m) nn) (I (a + 1)) 8) ∧ ∃ N' sh' I' L' B' R', S = ((N', sh'), I', L', B', R') ∧ gl_xt 690 695 N N' sh sh' I I' L L' B B' R R') := by
  refine gl_of (by decide) (Nat.le_of_ble_eq_true rfl) rfl ?_
  intro κ C hQ hlκ hδκ hnL hini
  change gl_Cx κ RX11 _ _ _ at C
  have hcm : fa + m ≤ 400 := by omega
  have h60 := hP.2.2.2.2.2 (Or.inr rfl)
  have hkN := hkr.1
  have hvN := hkr.2.1
  have hG1 : gl_GL (N + 1, va_up sh N (0, 8)) (va_up R N (fun _ => none)) := hG.new hN
  have hA1 : gl_DL (N + 1, va_up sh N (0, 8)) (va_up R N (fun _ => none)) a := hA.of_eq (fun c q1 q2 => gl_up_ne (by omega)) (fun c j q1 q2 => by rw [gl_up_ne (by omega)])
  have hP1 : gl_pf (N + 1, va_up sh N (0, 8)) I (va_up L N (fun _ => 0)) (va_up R N (fun _ => none)) p st kl vl 11 v n8 stp m ks vs := hP.of_eq ⟨gl_up_ne (by omega), rfl, gl_up_ne (by omega)⟩ ⟨gl_up_ne (by omega), rfl⟩ (fun _ => ⟨gl_up_ne (by omega), rfl, gl_up_ne (by omega), gl_up_ne (by omega)⟩)
  have h6 := hP1.2.2.2.2.2 (Or.inr rfl)
  have hinv0 := gl_ls_inv (row := (fun u t => stp (u * 8 + t))) (b := fa) fa 0 0 [] (by omega) (Nat.zero_le _) rfl trivial
  have hinv1 := gl_le_inv (K := ks) (V := vs) (a := fa) m 0 (gl_ls (fun u t => stp (u * 8 + t)) fa fa 0 0 []) (by rw [hinv0.1]; rfl) hinv0.2
  have hsz1 : gl_sz (gl_le ks vs fa m 0 (gl_ls (fun u t => stp (u * 8 + t)) fa fa 0 0 [])) = fa + m := by rw [hinv1.1, Nat.add_zero]
  have hin1 := hinv1.2
  have end_ : ∀ I3 : Nat → Nat → Int32, I a 3 = nI nn → (∀ c, c < 690 ∨ 695 ≤ c → c ≠ N → I3 c = I c) → gl_gp I3 (gl_le ks vs fa m 0 (gl_ls (fun u t => stp (u * 8 + t)) fa fa 0 0 [])) → gl_J κ 1 8 ((N + 1, va_up sh N (0, 8)), I3, (va_up L N (fun _ => 0)), (va_up B N (fun _ => false)), (va_up R N (fun _ => none))) 84 [some (.ref p), some (.ref 690), some (.ref 692), some (.ref a), some .null, some (.ref N), some (.int (nI (gl_bls fa fa 0).length)), some (.int (nI m))] [] := by
    intro I3 hca hF hg3
    refine j_aload_n C dX11_isRight_84 rfl 85 rfl ?_
    refine j_aload_n C dX11_isRight_85 rfl 86 rfl ?_
    refine j_aload_n C dX11_isRight_86 rfl 87 rfl ?_
    refine gf_X11_27_11 C hP1.1 dX11_isRight_87 90 rfl ?_
    rw [show I3 p 1 = v 1 from (congrFun (hF p (by omega) (by omega)) 1).trans (hP.2.2.2.1 1 (Or.inl (by decide))), hv1]
    refine j_aload_n C dX11_isRight_90 rfl 91 rfl ?_
    refine gf_X11_9_11 C hP1.1 (c' := kl) h6.1 dX11_isRight_91 94 rfl ?_
    refine j_alen C (by decide) h6.2.2.1 dX11_isRight_94 95 rfl ?_
    refine n_iadd C dX11_isRight_95 96 rfl ?_
    refine j_aload_n C dX11_isRight_96 rfl 97 rfl ?_
    refine gf_X11_21_11 C hP1.1 dX11_isRight_97 100 rfl ?_
    rw [show I3 p 0 = v 0 from (congrFun (hF p (by omega) (by omega)) 0).trans (hP.2.2.2.1 0 (Or.inl (by decide))), hv0]
    refine j_iload C dX11_isRight_100 rfl 102 rfl ?_
    refine j_ci C (cs_X11_30_11 C (ct_X10_piles_11 (I := I3) (p := p) (st := st) (n8 := n8) (a := fa + m) (b := nn) (fr := (gl_bls fa fa 0).length) (p0 := (gl_le ks vs fa m 0 (gl_ls (fun u t => stp (u * 8 + t)) fa fa 0 0 []))) (row := (fun u t => stp (u * 8 + t))) (h - 1) (by omega) hP1.1 hP1.2.1 hP1.2.2.1 (by omega) (by omega) hG1 hfm hnn hg3 hsz1 hin1 hcnt (fun u hu t ht => by rw [hF st (by omega) (by omega)]; exact hP.2.2.2.2.1 (u * 8 + t) (by omega))) (xx := 0) hP1.1 rfl (by omega) (by omega) (by omega) rfl (Nat.le_of_ble_eq_true rfl) dX11_isRight_102) 105 rfl ?_
    rintro _ _ ⟨rfl, I4, rfl, hf4, hg4⟩
    refine j_istore C dX11_isRight_105 (Nat.le_of_ble_eq_true rfl) (by rw [hnL]; decide) rfl 107 rfl ?_
    refine j_aload_n C dX11_isRight_107 rfl 108 rfl ?_
    refine j_aload C dX11_isRight_108 rfl 110 rfl ?_
    refine j_iconst (v := nI 0) C dX11_isRight_110 (by decide) 111 rfl ?_
    have hinv := gl_ls_inv (row := (fun u t => stp (u * 8 + t))) (b := nn) (nn - (fa + m)) (fa + m) (gl_bls fa fa 0).length (gl_le ks vs fa m 0 (gl_ls (fun u t => stp (u * 8 + t)) fa fa 0 0 [])) (Nat.le_refl _) hfm hsz1 hin1
    have hlen4 := gl_inc_len hinv.2 (by decide) (by omega)
    refine j_cv C (cs_X11_48 C (ct_X7_top (I := I4) (to := N) (nt := 8) (at_ := 0) (h - 1) (by omega) hG1 hg4 (by omega) gl_up_eq (by omega) (by decide) (by decide)) hG1.p0 rfl (by omega) (by omega) (by omega) rfl (Nat.le_of_ble_eq_true rfl) dX11_isRight_111) 114 rfl ?_
    rintro _ ⟨I5, rfl, h5, ht5⟩
    refine j_aload C dX11_isRight_114 rfl 116 rfl ?_
    refine j_iconst (v := nI 0) C dX11_isRight_116 (by decide) 117 rfl ?_
    refine j_aload_n C dX11_isRight_117 rfl 118 rfl ?_
    refine gf_X11_52 C (x := 0) hA1.o (c' := a + 1) hA1.r0 dX11_isRight_118 121 rfl ?_
    refine j_iconst (v := nI 0) C dX11_isRight_121 (by decide) 122 rfl ?_
    refine j_ci C (cs_X11_54 C (ct_X0_isLike (I := I5) (x := N) (y := a + 1) (nx := 8) (ny := 8) (p := 0) (q := 0) (h - 1) (by omega) gl_up_eq (by decide) (by decide) hA1.k1 (by decide) (by decide)) rfl (by omega) (by omega) (by omega) rfl (Nat.le_of_ble_eq_true rfl) dX11_isRight_122) 125 rfl ?_
    rintro _ _ ⟨rfl, rfl⟩
    have hF5 : (∀ c, c < 690 ∨ 695 ≤ c → c ≠ N → I5 c = I c) := fun c q1 q2 => by rw [h5 c (by omega) (by omega) q2, hf4 c q1]; exact hF c q1 q2
    refine j_zret C hQ ⟨?_, _, _, _, _, _, _, rfl, by omega, fun c hc => ⟨gl_up_ne (by omega), gl_up_ne (by omega), gl_up_ne (by omega), gl_up_ne (by omega), fun q_ => hF5 c q_ (by omega)⟩⟩ (by omega) (by omega) dX11_isRight_125
    rw [decide_eq_true hca, Bool.true_and]
    congr 1
    refine gl_lk_congr 8 (fun t ht => ?_) (fun t ht => ?_)
    · rw [ht5, pk_cpy_in (by omega) (by omega), gl_spT, show fa + m - fa = m by omega]
      congr 1; omega
    · rw [hF5 (a + 1) (by omega) (by omega), Nat.zero_add]
  have loop : I a 3 = nI nn → ∀ (c j : Nat) (I3 : Nat → Nat → Int32) (p1 : gl_Pl), j + c = m → (∀ c, c < 690 ∨ 695 ≤ c → c ≠ N → I3 c = I c) → gl_gp I3 p1 → gl_sz p1 = fa + j → gl_inc 0 p1 → gl_le ks vs fa c j p1 = (gl_le ks vs fa m 0 (gl_ls (fun u t => stp (u * 8 + t)) fa fa 0 0 [])) → gl_J κ 1 8 ((N + 1, va_up sh N (0, 8)), I3, (va_up L N (fun _ => 0)), (va_up B N (fun _ => false)), (va_up R N (fun _ => none))) 39 [some (.ref p), some (.ref 690), some (.ref 692), some (.ref a), some .null, some (.ref N), some (.int (nI (gl_bls fa fa 0).length)), some (.int (nI j))] [] := by
    intro hca c
    induction c with
    | zero =>
      intro j I3 p1 hj hF hg1 hs1 hi1 htg
      obtain rfl : j = m := by omega
      refine j_iload C dX11_isRight_39 rfl 41 rfl ?_
      refine j_aload_n C dX11_isRight_41 rfl 42 rfl ?_
      refine gf_X11_9_11 C hP1.1 (c' := kl) h6.1 dX11_isRight_42 45 rfl ?_
      refine j_alen C (by decide) h6.2.2.1 dX11_isRight_45 46 rfl ?_
      refine n_icmp_ge C 84 49 dX11_isRight_46 (by decide) rfl (by omega) (by omega) (fun c_46 => ?_) (fun c_46 => ?_)
      · exact end_ I3 hca hF (by rw [← htg]; exact hg1)
      · exact absurd c_46 (by omega)
    | succ c ih =>
      intro j I3 p1 hj hF hg1 hs1 hi1 htg
      have hlen := gl_inc_len hi1 (by decide) (by omega)
      refine j_iload C dX11_isRight_39 rfl 41 rfl ?_
      refine j_aload_n C dX11_isRight_41 rfl 42 rfl ?_
      refine gf_X11_9_11 C hP1.1 (c' := kl) h6.1 dX11_isRight_42 45 rfl ?_
      refine j_alen C (by decide) h6.2.2.1 dX11_isRight_45 46 rfl ?_
      refine n_icmp_ge C 84 49 dX11_isRight_46 (by decide) rfl (by omega) (by omega) (fun c_46 => ?_) (fun c_46 => ?_)
      · exact absurd c_46 (by omega)
      · refine j_aload_n C dX11_isRight_49 rfl 50 rfl ?_
        refine j_aload_n C dX11_isRight_50 rfl 51 rfl ?_
        refine gf_X11_9_11 C hP1.1 (c' := kl) h6.1 dX11_isRight_51 54 rfl ?_
        refine j_iload C dX11_isRight_54 rfl 56 rfl ?_
        refine j_iald C h6.2.2.1 (by omega) (by omega) dX11_isRight_56 57 rfl ?_
        rw [show I3 kl j = ks j from (congrFun (hF kl (by omega) (by omega)) j).trans (h60.2.2.2.2.2 j (by omega)).1]
        refine j_aload_n C dX11_isRight_57 rfl 58 rfl ?_
        refine gf_X11_34_11 C hP1.1 (c' := vl) h6.2.1 dX11_isRight_58 61 rfl ?_
        refine j_iload C dX11_isRight_61 rfl 63 rfl ?_
        refine j_lald C h6.2.2.2.1 (by omega) (by omega) dX11_isRight_63 64 rfl ?_
        rw [show (va_up L N (fun _ => 0)) vl j = vs j from (congrFun (gl_up_ne (by omega)) j).trans (h60.2.2.2.2.2 j (by omega)).2]
        refine j_aload C dX11_isRight_64 rfl 66 rfl ?_
        refine j_iconst (v := nI 0) C dX11_isRight_66 (by decide) 67 rfl ?_
        refine j_cv C (cs_X11_38 C (ct_X6_entry (I := I3) (to := N) (nt := 8) (at_ := 0) (h - 1) (by omega) hG1.mx gl_up_eq (by omega) (by decide) (by decide)) hG1.mx.1 rfl (by omega) (by omega) (by omega) rfl (Nat.le_of_ble_eq_true rfl) dX11_isRight_67) 70 rfl ?_
        rintro _ rfl
        refine j_aload_n C dX11_isRight_70 rfl 71 rfl ?_
        refine j_iconst (v := nI 0) C dX11_isRight_71 (by decide) 72 rfl ?_
        refine j_aload C dX11_isRight_72 rfl 74 rfl ?_
        refine j_iconst (v := nI 0) C dX11_isRight_74 (by decide) 75 rfl ?_
        refine j_cv C (cs_X11_44 C (ct_X7_add (p := p1) (e := 0) (x := N) (nx_ := 8) (at_ := 0) (h - 1) (by omega) hG1 (gl_gp_eq hg1 (by rw [gl_up_ne (by omega), gl_m1_o (by decide) (by decide)]) (by rw [gl_up_ne (by omega), gl_m1_o (by decide) (by decide)]) (by rw [gl_up_ne (by omega), gl_m1_o (by decide) (by decide)])) (by omega) (by omega) gl_up_eq (by decide) (by decide)) hG1.p0 rfl (by omega) (by omega) (by omega) rfl (Nat.le_of_ble_eq_true rfl) dX11_isRight_75) 78 rfl ?_
        rintro _ ⟨I4, rfl, hf4, hg4⟩
        refine n_iinc C dX11_isRight_78 rfl (by rw [hnL]; decide) rfl 81 rfl ?_
        refine j_goto (tgt := 39) C dX11_isRight_81 (by decide) ?_
        rw [hs1, gl_lay_congr (r' := gl_entry (ks j) (vs j)) (fun t ht => by rw [gl_up_eq, pk_cpy_in (by omega) (by omega)]; congr 1; omega)] at hg4
        refine ih (j + 1) I4 _ (by omega) (fun c q1 q2 => ?_) hg4 (by rw [gl_sz_lay, hs1]; omega) ?_ ?_
        · rw [hf4 c q1, gl_up_ne q2, gl_m1_o (by omega) (by omega)]; exact hF c q1 q2
        · rw [← hs1]
          exact gl_inc_lay hi1 (Nat.mod_one _)
        · rw [← htg]; rfl
  refine j_aload_n C dX11_isRight_0 rfl 1 rfl ?_
  refine gf_X11_15 C hA.o dX11_isRight_1 4 rfl ?_
  refine j_aload_n C dX11_isRight_4 rfl 5 rfl ?_
  refine gf_X11_21_11 C hP.1 dX11_isRight_5 8 rfl ?_
  rw [hP.2.2.2.1 0 (Or.inl (by decide)), hv0]
  refine j_icmp_eq C 13 11 dX11_isRight_8 (by decide) rfl (fun c_8 => ?_) (fun c_8 => ?_)
  · refine j_bipush (v := nI 8) C dX11_isRight_13 (by decide) 15 rfl ?_
    refine j_newarrI C (by decide) (by omega) (by omega) dX11_isRight_15 17 rfl ?_
    refine j_astore C dX11_isRight_17 (Nat.le_of_ble_eq_true rfl) (by rw [hnL]; decide) rfl 19 rfl ?_
    refine j_aload_n C dX11_isRight_19 rfl 20 rfl ?_
    refine j_cv C (cs_X11_22 C (ct_X7_begin (h - 1) (by omega) hG1) hG1.p0 rfl (by omega) (by omega) (by omega) rfl (Nat.le_of_ble_eq_true rfl) dX11_isRight_20) 23 rfl ?_
    rintro _ rfl
    refine j_aload_n C dX11_isRight_23 rfl 24 rfl ?_
    refine j_aload_n C dX11_isRight_24 rfl 25 rfl ?_
    refine j_iconst (v := nI 0) C dX11_isRight_25 (by decide) 26 rfl ?_
    refine j_aload_n C dX11_isRight_26 rfl 27 rfl ?_
    refine gf_X11_27_11 C hP1.1 dX11_isRight_27 30 rfl ?_
    rw [show (gl_u2 (gl_u2 (va_up I N (fun _ => 0)) 692 3 (nI 0)) 692 4 (nI 0)) p 1 = v 1 by simp (disch := omega) only [gl_u2_eq, gl_u2_ne, gl_up_eq, gl_up_ne]; exact hP.2.2.2.1 1 (Or.inl (by decide)), hv1]
    refine j_iconst (v := nI 0) C dX11_isRight_30 (by decide) 31 rfl ?_
    refine j_ci C (cs_X11_30_11 C (ct_X10_piles_11 (I := (gl_u2 (gl_u2 (va_up I N (fun _ => 0)) 692 3 (nI 0)) 692 4 (nI 0))) (p := p) (st := st) (n8 := n8) (a := 0) (b := fa) (fr := 0) (p0 := []) (row := (fun u t => stp (u * 8 + t))) (h - 1) (by omega) hP1.1 hP1.2.1 hP1.2.2.1 (by omega) (by omega) hG1 (by omega) (by omega) gl_gp_0 rfl trivial (by rw [Nat.sub_zero, Nat.zero_add]; omega) (fun u hu t ht => by simp (disch := omega) only [gl_u2_eq, gl_u2_ne, gl_up_eq, gl_up_ne]; exact hP.2.2.2.2.1 (u * 8 + t) (by omega))) (xx := 0) hP1.1 rfl (by omega) (by omega) (by omega) rfl (Nat.le_of_ble_eq_true rfl) dX11_isRight_31) 34 rfl ?_
    rintro _ _ ⟨rfl, I2, rfl, hf2, hg2⟩
    rw [Nat.sub_zero] at hg2
    rw [show nI (0 + (gl_bls fa (fa - 0) 0).length) = nI (gl_bls fa fa 0).length by rw [Nat.sub_zero, Nat.zero_add]]
    refine j_istore C dX11_isRight_34 (Nat.le_of_ble_eq_true rfl) (by rw [hnL]; decide) rfl 36 rfl ?_
    refine j_iconst (v := nI 0) C dX11_isRight_36 (by decide) 37 rfl ?_
    refine j_istore C dX11_isRight_37 (Nat.le_of_ble_eq_true rfl) (by rw [hnL]; decide) rfl 39 rfl ?_
    refine loop c_8 m 0 I2 (gl_ls (fun u t => stp (u * 8 + t)) fa fa 0 0 []) (by omega) (fun c q1 q2 => ?_) hg2 (by rw [hinv0.1]; rfl) hinv0.2 rfl
    rw [hf2 c q1]
    simp (disch := omega) only [gl_u2_eq, gl_u2_ne, gl_up_eq, gl_up_ne]
  · refine j_iconst (v := b2i false) C dX11_isRight_11 (by decide) 12 rfl ?_
    exact j_zret C hQ ⟨by rw [decide_eq_false c_8]; rfl, _, _, _, _, _, _, rfl, gl_xt.rf⟩ (by omega) (by omega) dX11_isRight_12
set_option maxHeartbeats 4000000 in
set_option maxRecDepth 100000 in
theorem ct_X13_isRight {l : Launch} {δ : gl_Del} {N : Nat} {sh : Nat → Nat × Nat} {I : Nat → Nat → Int32} {L : Nat → Nat → Int64} {B : Nat → Nat → Bool} {R : Nat → Nat → Option Nat} {p st kl vl a b : Nat} {v : Nat → Int32} {n8 m nn fa : Nat} {stp ks : Nat → Int32} {vs : Nat → Int64} (h : Nat) (hh : 7 ≤ h) (hG : gl_GL (N, sh) R) (hN : 707 ≤ N) (hP : gl_pf (N, sh) I L R p st kl vl 12 v n8 stp m ks vs) (hpN : p < N) (hp7 : 707 ≤ p) (hsN : st < N) (hs7 : 707 ≤ st) (hn8 : n8 < 2 ^ 24) (hv0 : v 0 = nI nn) (hv1 : v 1 = nI fa) (hnn : nn ≤ 400) (hfn : fa ≤ nn) (hA : gl_DL (N, sh) R a) (ha : a + 4 ≤ 690) (hB : gl_DL (N, sh) R b) (hb : b + 4 ≤ 690) (hcnt : ((gl_bls fa fa 0).length + (gl_bls nn (nn - fa) fa).length) * 8 ≤ n8) : gl_Ct l δ yX13_isRight (ws_ yX13_isRight cX13_isRight 8 ((some FieldType.boolean))) (gl_rm h 1 8) 1 8 [.ref p, .ref 690, .ref 692, .ref a, .ref b] ((N, sh), I, L, B, R) (gl_Qi fun r S => r = b2i (decide (I a 3 = nI fa) && decide (I b 3 = nI nn) && (gl_lk (gl_top (gl_grP (fun u t => stp (u * 8 + t)) fa)) (I (a + 1)) 8 && gl_lk (gl_top (gl_grQ (fun u t => stp (u * 8 + t)) fa nn)) (I (b + 1)) 8)) ∧ ∃ N' sh' I' L' B' R', S = ((N', sh'), I', L', B', R') ∧ gl_xt 690 695 N N' sh sh' I I' L L' B B' R R') := by
  refine gl_of (by decide) (Nat.le_of_ble_eq_true rfl) rfl ?_
  intro κ C hQ hlκ hδκ hnL hini
  change gl_Cx κ RX13 _ _ _ at C
  have hG1 : gl_GL (N + 1, va_up sh N (0, 8)) (va_up R N (fun _ => none)) := hG.new hN
  have hA1 : gl_DL (N + 1, va_up sh N (0, 8)) (va_up R N (fun _ => none)) a := hA.of_eq (fun c q1 q2 => gl_up_ne (by omega)) (fun c j q1 q2 => by rw [gl_up_ne (by omega)])
  have hB1 : gl_DL (N + 1, va_up sh N (0, 8)) (va_up R N (fun _ => none)) b := hB.of_eq (fun c q1 q2 => gl_up_ne (by omega)) (fun c j q1 q2 => by rw [gl_up_ne (by omega)])
  have hP1 : gl_pf (N + 1, va_up sh N (0, 8)) I (va_up L N (fun _ => 0)) (va_up R N (fun _ => none)) p st kl vl 12 v n8 stp m ks vs := hP.of_eq ⟨gl_up_ne (by omega), rfl, gl_up_ne (by omega)⟩ ⟨gl_up_ne (by omega), rfl⟩ (fun q_ => by omega)
  have hinv0 := gl_ls_inv (row := (fun u t => stp (u * 8 + t))) (b := fa) fa 0 0 [] (by omega) (Nat.zero_le _) rfl trivial
  refine j_aload_n C dX13_isRight_0 rfl 1 rfl ?_
  refine gf_X13_9 C hA.o dX13_isRight_1 4 rfl ?_
  refine j_aload_n C dX13_isRight_4 rfl 5 rfl ?_
  refine gf_X13_15 C hP.1 dX13_isRight_5 8 rfl ?_
  rw [hP.2.2.2.1 1 (Or.inl (by decide)), hv1]
  refine j_icmp_ne C 23 11 dX13_isRight_8 (by decide) rfl (fun c_8 => ?_) (fun c_8 => ?_)
  · refine j_iconst (v := b2i false) C dX13_isRight_23 (by decide) 24 rfl ?_
    exact j_zret C hQ ⟨by rw [decide_eq_false c_8]; rfl, _, _, _, _, _, _, rfl, gl_xt.rf⟩ (by omega) (by omega) dX13_isRight_24
  · refine j_aload C dX13_isRight_11 rfl 13 rfl ?_
    refine gf_X13_9 C hB.o dX13_isRight_13 16 rfl ?_
    refine j_aload_n C dX13_isRight_16 rfl 17 rfl ?_
    refine gf_X13_20 C hP.1 dX13_isRight_17 20 rfl ?_
    rw [hP.2.2.2.1 0 (Or.inl (by decide)), hv0]
    refine j_icmp_eq C 25 23 dX13_isRight_20 (by decide) rfl (fun c_20 => ?_) (fun c_20 => ?_)
    · refine j_bipush (v := nI 8) C dX13_isRight_25 (by decide) 27 rfl ?_
      refine j_newarrI C (by decide) (by omega) (by omega) dX13_isRight_27 29 rfl ?_
      refine j_astore C dX13_isRight_29 (Nat.le_of_ble_eq_true rfl) (by rw [hnL]; decide) rfl 31 rfl ?_
      refine j_aload_n C dX13_isRight_31 rfl 32 rfl ?_
      refine j_cv C (cs_X13_21 C (ct_X7_begin (h - 1) (by omega) hG1) hG1.p0 rfl (by omega) (by omega) (by omega) rfl (Nat.le_of_ble_eq_true rfl) dX13_isRight_32) 35 rfl ?_
      rintro _ rfl
      refine j_aload_n C dX13_isRight_35 rfl 36 rfl ?_
      refine j_aload_n C dX13_isRight_36 rfl 37 rfl ?_
      refine j_iconst (v := nI 0) C dX13_isRight_37 (by decide) 38 rfl ?_
      refine j_aload_n C dX13_isRight_38 rfl 39 rfl ?_
      refine gf_X13_15 C hP1.1 dX13_isRight_39 42 rfl ?_
      rw [show (gl_u2 (gl_u2 (va_up I N (fun _ => 0)) 692 3 (nI 0)) 692 4 (nI 0)) p 1 = v 1 by simp (disch := omega) only [gl_u2_eq, gl_u2_ne, gl_up_eq, gl_up_ne]; exact hP.2.2.2.1 1 (Or.inl (by decide)), hv1]
      refine j_iconst (v := nI 0) C dX13_isRight_42 (by decide) 43 rfl ?_
      refine j_ci C (cs_X13_26_12 C (ct_X10_piles_12 (I := (gl_u2 (gl_u2 (va_up I N (fun _ => 0)) 692 3 (nI 0)) 692 4 (nI 0))) (p := p) (st := st) (n8 := n8) (a := 0) (b := fa) (fr := 0) (p0 := []) (row := (fun u t => stp (u * 8 + t))) (h - 1) (by omega) hP1.1 hP1.2.1 hP1.2.2.1 (by omega) (by omega) hG1 (by omega) (by omega) gl_gp_0 rfl trivial (by rw [Nat.sub_zero, Nat.zero_add]; omega) (fun u hu t ht => by simp (disch := omega) only [gl_u2_eq, gl_u2_ne, gl_up_eq, gl_up_ne]; exact hP.2.2.2.2.1 (u * 8 + t) (by omega))) (xx := 0) hP1.1 rfl (by omega) (by omega) (by omega) rfl (Nat.le_of_ble_eq_true rfl) dX13_isRight_43) 46 rfl ?_
      rintro _ _ ⟨rfl, I2, rfl, hf2, hg2⟩
      rw [Nat.sub_zero] at hg2
      rw [show nI (0 + (gl_bls fa (fa - 0) 0).length) = nI (gl_bls fa fa 0).length by rw [Nat.sub_zero, Nat.zero_add]]
      have hF2 : (∀ c, c < 690 ∨ 695 ≤ c → c ≠ N → I2 c = I c) := fun c q1 q2 => by
        rw [hf2 c q1]
        simp (disch := omega) only [gl_u2_eq, gl_u2_ne, gl_up_eq, gl_up_ne]
      have hlen2 := gl_inc_len hinv0.2 (by decide) (by omega)
      refine j_istore C dX13_isRight_46 (Nat.le_of_ble_eq_true rfl) (by rw [hnL]; decide) rfl 48 rfl ?_
      refine j_aload_n C dX13_isRight_48 rfl 49 rfl ?_
      refine j_aload C dX13_isRight_49 rfl 51 rfl ?_
      refine j_iconst (v := nI 0) C dX13_isRight_51 (by decide) 52 rfl ?_
      refine j_cv C (cs_X13_30 C (ct_X7_top (I := I2) (p := (gl_grP (fun u t => stp (u * 8 + t)) fa)) (to := N) (nt := 8) (at_ := 0) (h - 1) (by omega) hG1 hg2 (by show List.length (gl_ls (fun u t => stp (u * 8 + t)) fa fa 0 0 []) < 64; omega) gl_up_eq (by omega) (by decide) (by decide)) hG1.p0 rfl (by omega) (by omega) (by omega) rfl (Nat.le_of_ble_eq_true rfl) dX13_isRight_52) 55 rfl ?_
      rintro _ ⟨I3, rfl, h3, ht3⟩
      have hF3 : (∀ c, c < 690 ∨ 695 ≤ c → c ≠ N → I3 c = I c) := fun c q1 q2 => by rw [h3 c (by omega) (by omega) q2]; exact hF2 c q1 q2
      have hg3 : gl_gp I3 (gl_grP (fun u t => stp (u * 8 + t)) fa) := gl_gp_eq hg2 (h3 _ (by decide) (by decide) (by omega)) (h3 _ (by decide) (by decide) (by omega)) (h3 _ (by decide) (by decide) (by omega))
      refine j_aload C dX13_isRight_55 rfl 57 rfl ?_
      refine j_iconst (v := nI 0) C dX13_isRight_57 (by decide) 58 rfl ?_
      refine j_aload_n C dX13_isRight_58 rfl 59 rfl ?_
      refine gf_X13_34 C (x := 0) hA1.o (c' := a + 1) hA1.r0 dX13_isRight_59 62 rfl ?_
      refine j_iconst (v := nI 0) C dX13_isRight_62 (by decide) 63 rfl ?_
      refine j_ci C (cs_X13_37 C (ct_X0_isLike (I := I3) (x := N) (y := a + 1) (nx := 8) (ny := 8) (p := 0) (q := 0) (h - 1) (by omega) gl_up_eq (by decide) (by decide) hA1.k1 (by decide) (by decide)) rfl (by omega) (by omega) (by omega) rfl (Nat.le_of_ble_eq_true rfl) dX13_isRight_63) 66 rfl ?_
      rintro _ _ ⟨rfl, rfl⟩
      rw [show gl_lk (fun t => I3 N (0 + t)) (fun t => I3 (a + 1) (0 + t)) 8 = gl_lk (gl_top (gl_grP (fun u t => stp (u * 8 + t)) fa)) (I (a + 1)) 8 from gl_lk_congr 8 (fun t ht => by rw [ht3, pk_cpy_in (by omega) (by omega)]; congr 1; omega) (fun t ht => by rw [hF3 (a + 1) (by omega) (by omega), Nat.zero_add])]
      refine j_istore C dX13_isRight_66 (Nat.le_of_ble_eq_true rfl) (by rw [hnL]; decide) rfl 68 rfl ?_
      refine j_aload_n C dX13_isRight_68 rfl 69 rfl ?_
      refine j_aload_n C dX13_isRight_69 rfl 70 rfl ?_
      refine j_aload_n C dX13_isRight_70 rfl 71 rfl ?_
      refine gf_X13_15 C hP1.1 dX13_isRight_71 74 rfl ?_
      rw [show I3 p 1 = v 1 from (congrFun (hF3 p (by omega) (by omega)) 1).trans (hP.2.2.2.1 1 (Or.inl (by decide))), hv1]
      refine j_aload_n C dX13_isRight_74 rfl 75 rfl ?_
      refine gf_X13_20 C hP1.1 dX13_isRight_75 78 rfl ?_
      rw [show I3 p 0 = v 0 from (congrFun (hF3 p (by omega) (by omega)) 0).trans (hP.2.2.2.1 0 (Or.inl (by decide))), hv0]
      refine j_iload C dX13_isRight_78 rfl 80 rfl ?_
      refine j_ci C (cs_X13_26_12 C (ct_X10_piles_12 (I := I3) (p := p) (st := st) (n8 := n8) (a := fa) (b := nn) (fr := (gl_bls fa fa 0).length) (p0 := (gl_grP (fun u t => stp (u * 8 + t)) fa)) (row := (fun u t => stp (u * 8 + t))) (h - 1) (by omega) hP1.1 hP1.2.1 hP1.2.2.1 (by omega) (by omega) hG1 hfn hnn hg3 hinv0.1 hinv0.2 hcnt (fun u hu t ht => by rw [hF3 st (by omega) (by omega)]; exact hP.2.2.2.2.1 (u * 8 + t) (by omega))) (xx := 0) hP1.1 rfl (by omega) (by omega) (by omega) rfl (Nat.le_of_ble_eq_true rfl) dX13_isRight_80) 83 rfl ?_
      rintro _ _ ⟨rfl, I4, rfl, hf4, hg4⟩
      have hinv4 := gl_ls_inv (row := (fun u t => stp (u * 8 + t))) (b := nn) (nn - fa) fa (gl_bls fa fa 0).length (gl_grP (fun u t => stp (u * 8 + t)) fa) (Nat.le_refl _) hfn hinv0.1 hinv0.2
      have hlen4 := gl_inc_len hinv4.2 (by decide) (by omega)
      refine j_istore C dX13_isRight_83 (Nat.le_of_ble_eq_true rfl) (by rw [hnL]; decide) rfl 85 rfl ?_
      refine j_aload_n C dX13_isRight_85 rfl 86 rfl ?_
      refine j_aload C dX13_isRight_86 rfl 88 rfl ?_
      refine j_iconst (v := nI 0) C dX13_isRight_88 (by decide) 89 rfl ?_
      refine j_cv C (cs_X13_30 C (ct_X7_top (I := I4) (p := (gl_grQ (fun u t => stp (u * 8 + t)) fa nn)) (to := N) (nt := 8) (at_ := 0) (h - 1) (by omega) hG1 hg4 (by show List.length (gl_ls (fun u t => stp (u * 8 + t)) nn (nn - fa) fa (gl_bls fa fa 0).length (gl_grP (fun u t => stp (u * 8 + t)) fa)) < 64; omega) gl_up_eq (by omega) (by decide) (by decide)) hG1.p0 rfl (by omega) (by omega) (by omega) rfl (Nat.le_of_ble_eq_true rfl) dX13_isRight_89) 92 rfl ?_
      rintro _ ⟨I5, rfl, h5, ht5⟩
      have hF5 : (∀ c, c < 690 ∨ 695 ≤ c → c ≠ N → I5 c = I c) := fun c q1 q2 => by rw [h5 c (by omega) (by omega) q2, hf4 c q1]; exact hF3 c q1 q2
      refine j_iload C dX13_isRight_92 rfl 94 rfl ?_
      refine b_if_eq C 116 97 dX13_isRight_94 (by decide) rfl (fun c_94 => ?_) (fun c_94 => ?_)
      · refine j_iconst (v := b2i false) C dX13_isRight_116 (by decide) 117 rfl ?_
        exact j_zret C hQ ⟨by rw [decide_eq_true c_8, decide_eq_true c_20, c_94]; rfl, _, _, _, _, _, _, rfl, by omega, fun c hc => ⟨gl_up_ne (by omega), gl_up_ne (by omega), gl_up_ne (by omega), gl_up_ne (by omega), fun q_ => hF5 c q_ (by omega)⟩⟩ (by omega) (by omega) dX13_isRight_117
      · refine j_aload C dX13_isRight_97 rfl 99 rfl ?_
        refine j_iconst (v := nI 0) C dX13_isRight_99 (by decide) 100 rfl ?_
        refine j_aload C dX13_isRight_100 rfl 102 rfl ?_
        refine gf_X13_34 C (x := 0) hB1.o (c' := b + 1) hB1.r0 dX13_isRight_102 105 rfl ?_
        refine j_iconst (v := nI 0) C dX13_isRight_105 (by decide) 106 rfl ?_
        refine j_ci C (cs_X13_37 C (ct_X0_isLike (I := I5) (x := N) (y := b + 1) (nx := 8) (ny := 8) (p := 0) (q := 0) (h - 1) (by omega) gl_up_eq (by decide) (by decide) hB1.k1 (by decide) (by decide)) rfl (by omega) (by omega) (by omega) rfl (Nat.le_of_ble_eq_true rfl) dX13_isRight_106) 109 rfl ?_
        rintro _ _ ⟨rfl, rfl⟩
        rw [show gl_lk (fun t => I5 N (0 + t)) (fun t => I5 (b + 1) (0 + t)) 8 = gl_lk (gl_top (gl_grQ (fun u t => stp (u * 8 + t)) fa nn)) (I (b + 1)) 8 from gl_lk_congr 8 (fun t ht => by rw [ht5, pk_cpy_in (by omega) (by omega)]; congr 1; omega) (fun t ht => by rw [hF5 (b + 1) (by omega) (by omega), Nat.zero_add])]
        refine b_if_eq C 116 112 dX13_isRight_109 (by decide) rfl (fun c_109 => ?_) (fun c_109 => ?_)
        · refine j_iconst (v := b2i false) C dX13_isRight_116 (by decide) 117 rfl ?_
          exact j_zret C hQ ⟨by rw [decide_eq_true c_8, decide_eq_true c_20, c_94, c_109]; rfl, _, _, _, _, _, _, rfl, by omega, fun c hc => ⟨gl_up_ne (by omega), gl_up_ne (by omega), gl_up_ne (by omega), gl_up_ne (by omega), fun q_ => hF5 c q_ (by omega)⟩⟩ (by omega) (by omega) dX13_isRight_117
        · refine j_iconst (v := b2i true) C dX13_isRight_112 (by decide) 113 rfl ?_
          refine j_goto (tgt := 117) C dX13_isRight_113 (by decide) ?_
          exact j_zret C hQ ⟨by rw [decide_eq_true c_8, decide_eq_true c_20, c_94, c_109]; rfl, _, _, _, _, _, _, rfl, by omega, fun c hc => ⟨gl_up_ne (by omega), gl_up_ne (by omega), gl_up_ne (by omega), gl_up_ne (by omega), fun q_ => hF5 c q_ (by omega)⟩⟩ (by omega) (by omega) dX13_isRight_117
    · refine j_iconst (v := b2i false) C dX13_isRight_23 (by decide) 24 rfl ?_
      exact j_zret C hQ ⟨by rw [decide_eq_false c_20, Bool.and_false, Bool.false_and], _, _, _, _, _, _, rfl, gl_xt.rf⟩ (by omega) (by omega) dX13_isRight_24
