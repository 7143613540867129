/-! MODULE GlassLog, proofs: end and isRight of what a map holds or lacks (by gen79.py) -/
set_option maxRecDepth 100000
set_option maxHeartbeats 4000000 in
set_option maxRecDepth 100000 in
theorem ct_X14_end {l : Launch} {δ : gl_Del} {Λ : gl_Lay} {I : Nat → Nat → Int32} {L : Nat → Nat → Int64} {B : Nat → Nat → Bool} {R : Nat → Nat → Option Nat} {p x to : Nat} (h : Nat) (hh : 4 ≤ h) (hG : gl_GL Λ R) (hk : Λ.2 p = (21, x)) (ht : Λ.2 to = (0, 8)) (htr : to < 690 ∨ 692 ≤ to) : gl_Ct l δ yX14_end (ws_ yX14_end cX14_end 3 none) (gl_rm h 0 0) 0 0 [.ref p, .ref 690, .ref to] (Λ, I, L, B, R) (gl_Qv fun S => ∃ I', S = (Λ, I', L, B, R) ∧ (∀ c, c ≠ 690 → c ≠ 691 → c ≠ to → I' c = I c) ∧ I' to = va_cpy (gl_leaf (I p 5) (I p 6)) (I to) 0 0 8) := by
  refine gl_of (by decide) (Nat.le_of_ble_eq_true rfl) rfl ?_
  intro κ C hQ hlκ hδκ hnL hini
  change gl_Cx κ RX14 _ _ _ at C
  refine j_aload_n C dX14_end_0 rfl 1 rfl ?_
  refine j_aload_n C dX14_end_1 rfl 2 rfl ?_
  refine gf_X14_9_13 C hk dX14_end_2 5 rfl ?_
  refine j_aload_n C dX14_end_5 rfl 6 rfl ?_
  refine gf_X14_15_13 C hk dX14_end_6 9 rfl ?_
  refine j_aload_n C dX14_end_9 rfl 10 rfl ?_
  refine j_iconst (v := nI 0) C dX14_end_10 (by decide) 11 rfl ?_
  refine j_cv C (cs_X14_18 C (ct_X6_leaf (to := to) (nt := 8) (at_ := 0) (h - 1) (by omega) hG.mx ht (by omega) (by decide) (by decide)) hG.mx.1 rfl (by omega) (by omega) (by omega) rfl (Nat.le_of_ble_eq_true rfl) dX14_end_11) 14 rfl ?_
  rintro _ rfl
  exact j_ret C hQ ⟨_, rfl, fun c h1 h2 h3 => by rw [gl_up_ne h3, gl_m1_o h1 h2], gl_up_eq⟩ (by omega) (by omega) dX14_end_14
set_option maxHeartbeats 4000000 in
set_option maxRecDepth 100000 in
theorem ct_X15_end {l : Launch} {δ : gl_Del} {Λ : gl_Lay} {I : Nat → Nat → Int32} {L : Nat → Nat → Int64} {B : Nat → Nat → Bool} {R : Nat → Nat → Option Nat} {p x to : Nat} (h : Nat) (hh : 4 ≤ h) (hG : gl_GL Λ R) (hk : Λ.2 p = (22, x)) (ht : Λ.2 to = (0, 8)) (htr : to < 690 ∨ 692 ≤ to) : gl_Ct l δ yX15_end (ws_ yX15_end cX15_end 3 none) (gl_rm h 0 0) 0 0 [.ref p, .ref 690, .ref to] (Λ, I, L, B, R) (gl_Qv fun S => ∃ I', S = (Λ, I', L, B, R) ∧ (∀ c, c ≠ 690 → c ≠ 691 → c ≠ to → I' c = I c) ∧ I' to = va_cpy (if I p 6 < 0 then gl_zr else gl_leaf (I p 7) (I p 6)) (I to) 0 0 8) := by
  refine gl_of (by decide) (Nat.le_of_ble_eq_true rfl) rfl ?_
  intro κ C hQ hlκ hδκ hnL hini
  change gl_Cx κ RX15 _ _ _ at C
  refine j_aload_n C dX15_end_0 rfl 1 rfl ?_
  refine gf_X15_15 C hk dX15_end_1 4 rfl ?_
  refine j_if_ge C 15 7 dX15_end_4 (by decide) rfl (fun c_4 => ?_) (fun c_4 => ?_)
  · refine j_aload_n C dX15_end_15 rfl 16 rfl ?_
    refine j_aload_n C dX15_end_16 rfl 17 rfl ?_
    refine gf_X15_9 C hk dX15_end_17 20 rfl ?_
    refine j_aload_n C dX15_end_20 rfl 21 rfl ?_
    refine gf_X15_15 C hk dX15_end_21 24 rfl ?_
    refine j_aload_n C dX15_end_24 rfl 25 rfl ?_
    refine j_iconst (v := nI 0) C dX15_end_25 (by decide) 26 rfl ?_
    refine j_cv C (cs_X15_22 C (ct_X6_leaf (to := to) (nt := 8) (at_ := 0) (h - 1) (by omega) hG.mx ht (by omega) (by decide) (by decide)) hG.mx.1 rfl (by omega) (by omega) (by omega) rfl (Nat.le_of_ble_eq_true rfl) dX15_end_26) 29 rfl ?_
    rintro _ rfl
    exact j_ret C hQ ⟨_, rfl, fun c h1 h2 h3 => by rw [gl_up_ne h3, gl_m1_o h1 h2], by rw [gl_up_eq, if_neg (Int32.not_lt.mpr c_4)]⟩ (by omega) (by omega) dX15_end_29
  · refine j_aload_n C dX15_end_7 rfl 8 rfl ?_
    refine j_iconst (v := nI 0) C dX15_end_8 (by decide) 9 rfl ?_
    refine j_cv C (cs_X15_18 C (ct_X0_clear (x := to) (nx := 8) (p := 0) (h - 1) (by omega) ht (by decide) (by decide)) rfl (by omega) (by omega) (by omega) rfl (Nat.le_of_ble_eq_true rfl) dX15_end_9) 12 rfl ?_
    rintro _ rfl
    refine j_goto (tgt := 29) C dX15_end_12 (by decide) ?_
    exact j_ret C hQ ⟨_, rfl, fun c h1 h2 h3 => gl_up_ne h3, by rw [gl_up_eq, if_pos (Int32.not_le.mp c_4)]⟩ (by omega) (by omega) dX15_end_29
set_option maxHeartbeats 4000000 in
set_option maxRecDepth 100000 in
theorem ct_X14_isRight_13 {l : Launch} {δ : gl_Del} {N : Nat} {sh : Nat → Nat × Nat} {I : Nat → Nat → Int32} {L : Nat → Nat → Int64} {B : Nat → Nat → Bool} {R : Nat → Nat → Option Nat} {p st kl vl a : Nat} {v : Nat → Int32} {n8 m nn mn : Nat} {stp ks : Nat → Int32} {vs : Nat → Int64} (h : Nat) (hh : 5 ≤ h) (hG : gl_GL (N, sh) R) (hN : 707 ≤ N) (hP : gl_pf (N, sh) I L R p st kl vl 13 v n8 stp m ks vs) (hpN : p < N) (hp7 : 707 ≤ p) (hsN : st < N) (hs7 : 707 ≤ st) (hn8 : n8 < 2 ^ 24) (hv0 : v 0 = nI nn) (hv3 : v 3 = nI mn) (hmn : mn ≤ 256) (hm8 : mn * 8 ≤ n8) (hA : gl_DL (N, sh) R a) (ha : a + 4 ≤ 690) : gl_Ct l δ yX14_isRight (ws_ yX14_isRight cX14_isRight 8 ((some FieldType.boolean))) (gl_rm h 2 16) 2 16 [.ref p, .ref 690, .ref 692, .ref a, .null] ((N, sh), I, L, B, R) (gl_Qi fun r S => r = b2i (decide (I a 3 = nI nn) && gl_lk (gl_wup (fun u t => stp (u * 8 + t)) (fun d => gl_bit (gl_way (v 5)) d) mn (gl_leaf (v 5) (v 6))) (I (a + 2)) 8) ∧ ∃ N' sh' I' L' B' R', S = ((N', sh'), I', L', B', R') ∧ gl_xt 690 692 N N' sh sh' I I' L L' B B' R R') := by
  refine gl_of (by decide) (Nat.le_of_ble_eq_true rfl) rfl ?_
  intro κ C hQ hlκ hδκ hnL hini
  change gl_Cx κ RX14 _ _ _ at C
  have hG2 : gl_GL (N + 1 + 1, va_up (va_up sh N (0, 8)) (N + 1) (0, 8)) (va_up (va_up R N (fun _ => none)) (N + 1) (fun _ => none)) := (hG.new (N' := N + 1) hN).new (by omega)
  have hA2 : gl_DL (N + 1 + 1, va_up (va_up sh N (0, 8)) (N + 1) (0, 8)) (va_up (va_up R N (fun _ => none)) (N + 1) (fun _ => none)) a := hA.of_eq (fun c q1 q2 => by show va_up (va_up sh N (0, 8)) (N + 1) (0, 8) c = sh c; simp (disch := omega) only [gl_u2_eq, gl_u2_ne, gl_up_eq, gl_up_ne]) (fun c j q1 q2 => by simp (disch := omega) only [gl_u2_eq, gl_u2_ne, gl_up_eq, gl_up_ne])
  have hP2 : gl_pf (N + 1 + 1, va_up (va_up sh N (0, 8)) (N + 1) (0, 8)) I (va_up (va_up L N (fun _ => 0)) (N + 1) (fun _ => 0)) (va_up (va_up R N (fun _ => none)) (N + 1) (fun _ => none)) p st kl vl 13 v n8 stp m ks vs := hP.of_eq ⟨by show va_up (va_up sh N (0, 8)) (N + 1) (0, 8) p = sh p; simp (disch := omega) only [gl_u2_eq, gl_u2_ne, gl_up_eq, gl_up_ne], rfl, by simp (disch := omega) only [gl_u2_eq, gl_u2_ne, gl_up_eq, gl_up_ne]⟩ ⟨by show va_up (va_up sh N (0, 8)) (N + 1) (0, 8) st = sh st; simp (disch := omega) only [gl_u2_eq, gl_u2_ne, gl_up_eq, gl_up_ne], rfl⟩ (fun q_ => by omega)
  have loop : I a 3 = nI nn → ∀ d : Nat, d ≤ mn → ∀ (acc : Nat → Int32) (I3 : Nat → Nat → Int32), (∀ c, c < 690 ∨ 692 ≤ c → c < N → I3 c = I c) → (∀ t, t < 8 → I3 N t = gl_way (v 5) t) → (∀ t, t < 8 → I3 (N + 1) t = acc t) → gl_wup (fun u t => stp (u * 8 + t)) (fun d => gl_bit (gl_way (v 5)) d) d acc = gl_wup (fun u t => stp (u * 8 + t)) (fun d => gl_bit (gl_way (v 5)) d) mn (gl_leaf (v 5) (v 6)) → gl_J κ 2 16 ((N + 1 + 1, va_up (va_up sh N (0, 8)) (N + 1) (0, 8)), I3, (va_up (va_up L N (fun _ => 0)) (N + 1) (fun _ => 0)), (va_up (va_up B N (fun _ => false)) (N + 1) (fun _ => false)), (va_up (va_up R N (fun _ => none)) (N + 1) (fun _ => none))) 51 [some (.ref p), some (.ref 690), some (.ref 692), some (.ref a), some .null, some (.ref N), some (.ref (N + 1)), some (.int (nI d + (-1)))] [] := by
    intro hca d
    induction d with
    | zero =>
      intro hd acc I3 hF hwy hac htg
      refine j_iload C dX14_isRight_51 rfl 53 rfl ?_
      refine j_if_lt C 114 56 dX14_isRight_53 (by decide) rfl (fun c_53 => ?_) (fun c_53 => ?_)
      · refine j_aload C dX14_isRight_114 rfl 116 rfl ?_
        refine j_iconst (v := nI 0) C dX14_isRight_116 (by decide) 117 rfl ?_
        refine j_aload_n C dX14_isRight_117 rfl 118 rfl ?_
        refine gf_X14_53 C (x := 0) hA2.o (c' := a + 2) hA2.r1 dX14_isRight_118 121 rfl ?_
        refine j_iconst (v := nI 0) C dX14_isRight_121 (by decide) 122 rfl ?_
        refine j_ci C (cs_X14_56 C (ct_X0_isLike (I := I3) (x := N + 1) (y := a + 2) (nx := 8) (ny := 8) (p := 0) (q := 0) (h - 1) (by omega) gl_up_eq (by decide) (by decide) hA2.k2 (by decide) (by decide)) rfl (by omega) (by omega) (by omega) rfl (Nat.le_of_ble_eq_true rfl) dX14_isRight_122) 125 rfl ?_
        rintro _ _ ⟨rfl, rfl⟩
        exact j_zret C hQ ⟨by rw [decide_eq_true hca, Bool.true_and]; congr 1; exact gl_lk_congr 8 (fun t ht => by rw [Nat.zero_add, hac t ht, ← htg]; rfl) (fun t ht => by rw [hF (a + 2) (by omega) (by omega), Nat.zero_add]), _, _, _, _, _, _, rfl, by omega, fun c hc => ⟨by simp (disch := omega) only [gl_u2_eq, gl_u2_ne, gl_up_eq, gl_up_ne], by simp (disch := omega) only [gl_u2_eq, gl_u2_ne, gl_up_eq, gl_up_ne], by simp (disch := omega) only [gl_u2_eq, gl_u2_ne, gl_up_eq, gl_up_ne], by simp (disch := omega) only [gl_u2_eq, gl_u2_ne, gl_up_eq, gl_up_ne], fun q_ => hF c q_ hc⟩⟩ (by omega) (by omega) dX14_isRight_125
      · exact absurd (by decide) c_53
    | succ d ih =>
      intro hd acc I3 hF hwy hac htg
      rw [pk_m1]
      refine j_iload C dX14_isRight_51 rfl 53 rfl ?_
      refine j_if_lt C 114 56 dX14_isRight_53 (by decide) rfl (fun c_53 => ?_) (fun c_53 => ?_)
      · exact absurd c_53 (nI_pos (by omega))
      · refine j_aload C dX14_isRight_56 rfl 58 rfl ?_
        refine j_iconst (v := nI 0) C dX14_isRight_58 (by decide) 59 rfl ?_
        refine j_iload C dX14_isRight_59 rfl 61 rfl ?_
        refine j_ci C (cs_X14_41 C (ct_X0_bit (I := I3) (x := N) (nx := 8) (fr := 0) (d := d) (h - 1) (by omega) (by show va_up (va_up sh N (0, 8)) (N + 1) (0, 8) N = (0, 8); rw [gl_up_ne (by omega), gl_up_eq]) (by decide) (by decide) (by omega)) rfl (by omega) (by omega) (by omega) rfl (Nat.le_of_ble_eq_true rfl) dX14_isRight_61) 64 rfl ?_
        rintro _ _ ⟨rfl, rfl⟩
        rw [show gl_bit (fun t => I3 N (0 + t)) d = gl_bit (gl_way (v 5)) d from gl_bit_congr (by omega) (fun t ht => by rw [Nat.zero_add]; exact hwy t ht)]
        refine b_if_eq C 89 67 dX14_isRight_64 (by decide) rfl (fun c_64 => ?_) (fun c_64 => ?_)
        · refine j_aload_n C dX14_isRight_89 rfl 90 rfl ?_
          refine j_aload C dX14_isRight_90 rfl 92 rfl ?_
          refine j_iconst (v := nI 0) C dX14_isRight_92 (by decide) 93 rfl ?_
          refine j_aload_n C dX14_isRight_93 rfl 94 rfl ?_
          refine gf_X14_45_13 C hP2.1 (c' := st) hP2.2.1 dX14_isRight_94 97 rfl ?_
          refine j_iload C dX14_isRight_97 rfl 99 rfl ?_
          refine j_bipush (v := nI 8) C dX14_isRight_99 (by decide) 101 rfl ?_
          refine n_imul C dX14_isRight_101 102 rfl ?_
          refine j_aload C dX14_isRight_102 rfl 104 rfl ?_
          refine j_iconst (v := nI 0) C dX14_isRight_104 (by decide) 105 rfl ?_
          refine j_cv C (cs_X14_49 C (ct_X6_join (I := I3) (nx := 8) (ny := n8) (x := N + 1) (xf := 0) (y := st) (yf := d * 8) (to := N + 1) (nt := 8) (at_ := 0) (h - 1) (by omega) hG2.mx gl_up_eq (by omega) (by omega) (by omega) hP2.2.2.1 (by omega) (by omega) (by omega) gl_up_eq (by omega) (by decide) (by decide)) hG2.mx.1 rfl (by omega) (by omega) (by omega) rfl (Nat.le_of_ble_eq_true rfl) dX14_isRight_105) 108 rfl ?_
          rintro _ rfl
          refine j_iinc C dX14_isRight_108 rfl rfl (by rw [hnL]; decide) rfl 111 rfl ?_
          refine j_goto (tgt := 51) C dX14_isRight_111 (by decide) ?_
          have ej : gl_join (fun t => I3 (N + 1) (0 + t)) (fun t => I3 st (d * 8 + t)) = gl_join acc ((fun u t => stp (u * 8 + t)) d) := gl_join_congr (fun t ht => by rw [Nat.zero_add]; exact hac t ht) (fun t ht => by rw [hF st (by omega) hsN]; exact hP.2.2.2.2.1 (d * 8 + t) (by omega))
          rw [ej]
          refine ih (by omega) (gl_join acc ((fun u t => stp (u * 8 + t)) d)) _ (fun c q1 q2 => ?_) (fun t ht => ?_) (fun t ht => ?_) ?_
          · rw [gl_up_ne (by omega), gl_m1_o (by omega) (by omega)]; exact hF c q1 q2
          · rw [gl_up_ne (by omega), gl_m1_o (by omega) (by omega)]; exact hwy t ht
          · rw [gl_up_eq, pk_cpy_in (by omega) (by omega)]; congr 1; omega
          · rw [← htg, gl_wup, if_neg (by rw [c_64]; decide)]
        · refine j_aload_n C dX14_isRight_67 rfl 68 rfl ?_
          refine j_aload_n C dX14_isRight_68 rfl 69 rfl ?_
          refine gf_X14_45_13 C hP2.1 (c' := st) hP2.2.1 dX14_isRight_69 72 rfl ?_
          refine j_iload C dX14_isRight_72 rfl 74 rfl ?_
          refine j_bipush (v := nI 8) C dX14_isRight_74 (by decide) 76 rfl ?_
          refine n_imul C dX14_isRight_76 77 rfl ?_
          refine j_aload C dX14_isRight_77 rfl 79 rfl ?_
          refine j_iconst (v := nI 0) C dX14_isRight_79 (by decide) 80 rfl ?_
          refine j_aload C dX14_isRight_80 rfl 82 rfl ?_
          refine j_iconst (v := nI 0) C dX14_isRight_82 (by decide) 83 rfl ?_
          refine j_cv C (cs_X14_49 C (ct_X6_join (I := I3) (nx := n8) (ny := 8) (x := st) (xf := d * 8) (y := N + 1) (yf := 0) (to := N + 1) (nt := 8) (at_ := 0) (h - 1) (by omega) hG2.mx hP2.2.2.1 (by omega) (by omega) (by omega) gl_up_eq (by omega) (by omega) (by omega) gl_up_eq (by omega) (by decide) (by decide)) hG2.mx.1 rfl (by omega) (by omega) (by omega) rfl (Nat.le_of_ble_eq_true rfl) dX14_isRight_83) 86 rfl ?_
          rintro _ rfl
          refine j_goto (tgt := 108) C dX14_isRight_86 (by decide) ?_
          refine j_iinc C dX14_isRight_108 rfl rfl (by rw [hnL]; decide) rfl 111 rfl ?_
          refine j_goto (tgt := 51) C dX14_isRight_111 (by decide) ?_
          have ej : gl_join (fun t => I3 st (d * 8 + t)) (fun t => I3 (N + 1) (0 + t)) = gl_join ((fun u t => stp (u * 8 + t)) d) acc := gl_join_congr (fun t ht => by rw [hF st (by omega) hsN]; exact hP.2.2.2.2.1 (d * 8 + t) (by omega)) (fun t ht => by rw [Nat.zero_add]; exact hac t ht)
          rw [ej]
          refine ih (by omega) (gl_join ((fun u t => stp (u * 8 + t)) d) acc) _ (fun c q1 q2 => ?_) (fun t ht => ?_) (fun t ht => ?_) ?_
          · rw [gl_up_ne (by omega), gl_m1_o (by omega) (by omega)]; exact hF c q1 q2
          · rw [gl_up_ne (by omega), gl_m1_o (by omega) (by omega)]; exact hwy t ht
          · rw [gl_up_eq, pk_cpy_in (by omega) (by omega)]; congr 1; omega
          · rw [← htg, gl_wup, if_pos c_64]
  refine j_aload_n C dX14_isRight_0 rfl 1 rfl ?_
  refine gf_X14_24 C hA.o dX14_isRight_1 4 rfl ?_
  refine j_aload_n C dX14_isRight_4 rfl 5 rfl ?_
  refine gf_X14_29_13 C hP.1 dX14_isRight_5 8 rfl ?_
  rw [hP.2.2.2.1 0 (Or.inl (by decide)), hv0]
  refine j_icmp_eq C 13 11 dX14_isRight_8 (by decide) rfl (fun c_8 => ?_) (fun c_8 => ?_)
  · refine j_bipush (v := nI 8) C dX14_isRight_13 (by decide) 15 rfl ?_
    refine j_newarrI C (by decide) (by omega) (by omega) dX14_isRight_15 17 rfl ?_
    refine j_astore C dX14_isRight_17 (Nat.le_of_ble_eq_true rfl) (by rw [hnL]; decide) rfl 19 rfl ?_
    refine j_bipush (v := nI 8) C dX14_isRight_19 (by decide) 21 rfl ?_
    refine j_newarrI C (by decide) (by omega) (by omega) dX14_isRight_21 23 rfl ?_
    refine j_astore C dX14_isRight_23 (Nat.le_of_ble_eq_true rfl) (by rw [hnL]; decide) rfl 25 rfl ?_
    refine j_aload_n C dX14_isRight_25 rfl 26 rfl ?_
    refine j_aload_n C dX14_isRight_26 rfl 27 rfl ?_
    refine gf_X14_9_13 C hP2.1 dX14_isRight_27 30 rfl ?_
    rw [show (va_up (va_up I N (fun _ => 0)) (N + 1) (fun _ => 0)) p 5 = v 5 by simp (disch := omega) only [gl_u2_eq, gl_u2_ne, gl_up_eq, gl_up_ne]; exact hP.2.2.2.1 5 (Or.inr (Or.inl ⟨by decide, by decide⟩))]
    refine j_aload C dX14_isRight_30 rfl 32 rfl ?_
    refine j_iconst (v := nI 0) C dX14_isRight_32 (by decide) 33 rfl ?_
    refine j_cv C (cs_X14_30 C (ct_X6_way (to := N) (nt := 8) (at_ := 0) (h - 1) (by omega) hG2.mx (by show va_up (va_up sh N (0, 8)) (N + 1) (0, 8) N = (0, 8); rw [gl_up_ne (by omega), gl_up_eq]) (by omega) (by decide) (by decide)) hG2.mx.1 rfl (by omega) (by omega) (by omega) rfl (Nat.le_of_ble_eq_true rfl) dX14_isRight_33) 36 rfl ?_
    rintro _ rfl
    refine j_aload_n C dX14_isRight_36 rfl 37 rfl ?_
    refine j_aload_n C dX14_isRight_37 rfl 38 rfl ?_
    refine j_aload C dX14_isRight_38 rfl 40 rfl ?_
    refine j_cv C (cs_X14_34_13 C (ct_X14_end (I := (va_up (gl_m1 (va_up (va_up I N (fun _ => 0)) (N + 1) (fun _ => 0)) 690 691 (gl_way (v 5)) 2) N (va_cpy (gl_way (v 5)) ((va_up (va_up I N (fun _ => 0)) (N + 1) (fun _ => 0)) N) 0 0 8))) (p := p) (x := 0) (to := N + 1) (h - 1) (by omega) hG2 hP2.1 gl_up_eq (by omega)) (xx := 0) hP2.1 rfl (by omega) (by omega) (by omega) rfl (Nat.le_of_ble_eq_true rfl) dX14_isRight_40) 43 rfl ?_
    rintro _ ⟨I3, rfl, h3, ht3⟩
    have hW1 : ∀ c, c < N → c ≠ 690 → c ≠ 691 → (va_up (gl_m1 (va_up (va_up I N (fun _ => 0)) (N + 1) (fun _ => 0)) 690 691 (gl_way (v 5)) 2) N (va_cpy (gl_way (v 5)) ((va_up (va_up I N (fun _ => 0)) (N + 1) (fun _ => 0)) N) 0 0 8)) c = I c := fun c q1 q2 q3 => by rw [gl_up_ne (by omega), gl_m1_o q2 q3]; simp (disch := omega) only [gl_u2_eq, gl_u2_ne, gl_up_eq, gl_up_ne]
    have hF3 : (∀ c, c < 690 ∨ 692 ≤ c → c < N → I3 c = I c) := fun c q1 q2 => by rw [h3 c (by omega) (by omega) (by omega), hW1 c q2 (by omega) (by omega)]
    refine j_aload_n C dX14_isRight_43 rfl 44 rfl ?_
    refine gf_X14_38_13 C hP2.1 dX14_isRight_44 47 rfl ?_
    rw [show I3 p 3 = v 3 from (congrFun (hF3 p (by omega) hpN) 3).trans (hP.2.2.2.1 3 (Or.inl (by decide))), hv3]
    refine j_iconst (v := nI 1) C dX14_isRight_47 (by decide) 48 rfl ?_
    refine j_isub C dX14_isRight_48 49 rfl ?_
    rw [gl_nm]
    refine j_istore C dX14_isRight_49 (Nat.le_of_ble_eq_true rfl) (by rw [hnL]; decide) rfl 51 rfl ?_
    refine loop c_8 mn (Nat.le_refl _) (gl_leaf (v 5) (v 6)) I3 hF3 (fun t ht => ?_) (fun t ht => ?_) rfl
    · rw [h3 N (by omega) (by omega) (by omega), gl_up_eq, pk_cpy_in (by omega) (by omega)]; congr 1; omega
    · rw [ht3, pk_cpy_in (by omega) (by omega), hW1 p hpN (by omega) (by omega), hP.2.2.2.1 5 (Or.inr (Or.inl ⟨by decide, by decide⟩)), hP.2.2.2.1 6 (Or.inr (Or.inl ⟨by decide, by decide⟩))]
      rw [show 0 + (t - 0) = t by omega]
  · refine j_iconst (v := b2i false) C dX14_isRight_11 (by decide) 12 rfl ?_
    exact j_zret C hQ ⟨by rw [decide_eq_false c_8]; rfl, _, _, _, _, _, _, rfl, gl_xt.rf⟩ (by omega) (by omega) dX14_isRight_12
set_option maxHeartbeats 4000000 in
set_option maxRecDepth 100000 in
theorem ct_X14_isRight_14 {l : Launch} {δ : gl_Del} {N : Nat} {sh : Nat → Nat × Nat} {I : Nat → Nat → Int32} {L : Nat → Nat → Int64} {B : Nat → Nat → Bool} {R : Nat → Nat → Option Nat} {p st kl vl a : Nat} {v : Nat → Int32} {n8 m nn mn : Nat} {stp ks : Nat → Int32} {vs : Nat → Int64} (h : Nat) (hh : 5 ≤ h) (hG : gl_GL (N, sh) R) (hN : 707 ≤ N) (hP : gl_pf (N, sh) I L R p st kl vl 14 v n8 stp m ks vs) (hpN : p < N) (hp7 : 707 ≤ p) (hsN : st < N) (hs7 : 707 ≤ st) (hn8 : n8 < 2 ^ 24) (hv0 : v 0 = nI nn) (hv3 : v 3 = nI mn) (hmn : mn ≤ 256) (hm8 : mn * 8 ≤ n8) (hA : gl_DL (N, sh) R a) (ha : a + 4 ≤ 690) : gl_Ct l δ yX14_isRight (ws_ yX14_isRight cX14_isRight 8 ((some FieldType.boolean))) (gl_rm h 2 16) 2 16 [.ref p, .ref 690, .ref 692, .ref a, .null] ((N, sh), I, L, B, R) (gl_Qi fun r S => r = b2i (decide (I a 3 = nI nn) && gl_lk (gl_wup (fun u t => stp (u * 8 + t)) (fun d => gl_bit (gl_way (v 5)) d) mn (if v 6 < 0 then gl_zr else gl_leaf (v 7) (v 6))) (I (a + 2)) 8) ∧ ∃ N' sh' I' L' B' R', S = ((N', sh'), I', L', B', R') ∧ gl_xt 690 692 N N' sh sh' I I' L L' B B' R R') := by
  refine gl_of (by decide) (Nat.le_of_ble_eq_true rfl) rfl ?_
  intro κ C hQ hlκ hδκ hnL hini
  change gl_Cx κ RX14 _ _ _ at C
  have hG2 : gl_GL (N + 1 + 1, va_up (va_up sh N (0, 8)) (N + 1) (0, 8)) (va_up (va_up R N (fun _ => none)) (N + 1) (fun _ => none)) := (hG.new (N' := N + 1) hN).new (by omega)
  have hA2 : gl_DL (N + 1 + 1, va_up (va_up sh N (0, 8)) (N + 1) (0, 8)) (va_up (va_up R N (fun _ => none)) (N + 1) (fun _ => none)) a := hA.of_eq (fun c q1 q2 => by show va_up (va_up sh N (0, 8)) (N + 1) (0, 8) c = sh c; simp (disch := omega) only [gl_u2_eq, gl_u2_ne, gl_up_eq, gl_up_ne]) (fun c j q1 q2 => by simp (disch := omega) only [gl_u2_eq, gl_u2_ne, gl_up_eq, gl_up_ne])
  have hP2 : gl_pf (N + 1 + 1, va_up (va_up sh N (0, 8)) (N + 1) (0, 8)) I (va_up (va_up L N (fun _ => 0)) (N + 1) (fun _ => 0)) (va_up (va_up R N (fun _ => none)) (N + 1) (fun _ => none)) p st kl vl 14 v n8 stp m ks vs := hP.of_eq ⟨by show va_up (va_up sh N (0, 8)) (N + 1) (0, 8) p = sh p; simp (disch := omega) only [gl_u2_eq, gl_u2_ne, gl_up_eq, gl_up_ne], rfl, by simp (disch := omega) only [gl_u2_eq, gl_u2_ne, gl_up_eq, gl_up_ne]⟩ ⟨by show va_up (va_up sh N (0, 8)) (N + 1) (0, 8) st = sh st; simp (disch := omega) only [gl_u2_eq, gl_u2_ne, gl_up_eq, gl_up_ne], rfl⟩ (fun q_ => by omega)
  have loop : I a 3 = nI nn → ∀ d : Nat, d ≤ mn → ∀ (acc : Nat → Int32) (I3 : Nat → Nat → Int32), (∀ c, c < 690 ∨ 692 ≤ c → c < N → I3 c = I c) → (∀ t, t < 8 → I3 N t = gl_way (v 5) t) → (∀ t, t < 8 → I3 (N + 1) t = acc t) → gl_wup (fun u t => stp (u * 8 + t)) (fun d => gl_bit (gl_way (v 5)) d) d acc = gl_wup (fun u t => stp (u * 8 + t)) (fun d => gl_bit (gl_way (v 5)) d) mn (if v 6 < 0 then gl_zr else gl_leaf (v 7) (v 6)) → gl_J κ 2 16 ((N + 1 + 1, va_up (va_up sh N (0, 8)) (N + 1) (0, 8)), I3, (va_up (va_up L N (fun _ => 0)) (N + 1) (fun _ => 0)), (va_up (va_up B N (fun _ => false)) (N + 1) (fun _ => false)), (va_up (va_up R N (fun _ => none)) (N + 1) (fun _ => none))) 51 [some (.ref p), some (.ref 690), some (.ref 692), some (.ref a), some .null, some (.ref N), some (.ref (N + 1)), some (.int (nI d + (-1)))] [] := by
    intro hca d
    induction d with
    | zero =>
      intro hd acc I3 hF hwy hac htg
      refine j_iload C dX14_isRight_51 rfl 53 rfl ?_
      refine j_if_lt C 114 56 dX14_isRight_53 (by decide) rfl (fun c_53 => ?_) (fun c_53 => ?_)
      · refine j_aload C dX14_isRight_114 rfl 116 rfl ?_
        refine j_iconst (v := nI 0) C dX14_isRight_116 (by decide) 117 rfl ?_
        refine j_aload_n C dX14_isRight_117 rfl 118 rfl ?_
        refine gf_X14_53 C (x := 0) hA2.o (c' := a + 2) hA2.r1 dX14_isRight_118 121 rfl ?_
        refine j_iconst (v := nI 0) C dX14_isRight_121 (by decide) 122 rfl ?_
        refine j_ci C (cs_X14_56 C (ct_X0_isLike (I := I3) (x := N + 1) (y := a + 2) (nx := 8) (ny := 8) (p := 0) (q := 0) (h - 1) (by omega) gl_up_eq (by decide) (by decide) hA2.k2 (by decide) (by decide)) rfl (by omega) (by omega) (by omega) rfl (Nat.le_of_ble_eq_true rfl) dX14_isRight_122) 125 rfl ?_
        rintro _ _ ⟨rfl, rfl⟩
        exact j_zret C hQ ⟨by rw [decide_eq_true hca, Bool.true_and]; congr 1; exact gl_lk_congr 8 (fun t ht => by rw [Nat.zero_add, hac t ht, ← htg]; rfl) (fun t ht => by rw [hF (a + 2) (by omega) (by omega), Nat.zero_add]), _, _, _, _, _, _, rfl, by omega, fun c hc => ⟨by simp (disch := omega) only [gl_u2_eq, gl_u2_ne, gl_up_eq, gl_up_ne], by simp (disch := omega) only [gl_u2_eq, gl_u2_ne, gl_up_eq, gl_up_ne], by simp (disch := omega) only [gl_u2_eq, gl_u2_ne, gl_up_eq, gl_up_ne], by simp (disch := omega) only [gl_u2_eq, gl_u2_ne, gl_up_eq, gl_up_ne], fun q_ => hF c q_ hc⟩⟩ (by omega) (by omega) dX14_isRight_125
      · exact absurd (by decide) c_53
    | succ d ih =>
      intro hd acc I3 hF hwy hac htg
      rw [pk_m1]
      refine j_iload C dX14_isRight_51 rfl 53 rfl ?_
      refine j_if_lt C 114 56 dX14_isRight_53 (by decide) rfl (fun c_53 => ?_) (fun c_53 => ?_)
      · exact absurd c_53 (nI_pos (by omega))
      · refine j_aload C dX14_isRight_56 rfl 58 rfl ?_
        refine j_iconst (v := nI 0) C dX14_isRight_58 (by decide) 59 rfl ?_
        refine j_iload C dX14_isRight_59 rfl 61 rfl ?_
        refine j_ci C (cs_X14_41 C (ct_X0_bit (I := I3) (x := N) (nx := 8) (fr := 0) (d := d) (h - 1) (by omega) (by show va_up (va_up sh N (0, 8)) (N + 1) (0, 8) N = (0, 8); rw [gl_up_ne (by omega), gl_up_eq]) (by decide) (by decide) (by omega)) rfl (by omega) (by omega) (by omega) rfl (Nat.le_of_ble_eq_true rfl) dX14_isRight_61) 64 rfl ?_
        rintro _ _ ⟨rfl, rfl⟩
        rw [show gl_bit (fun t => I3 N (0 + t)) d = gl_bit (gl_way (v 5)) d from gl_bit_congr (by omega) (fun t ht => by rw [Nat.zero_add]; exact hwy t ht)]
        refine b_if_eq C 89 67 dX14_isRight_64 (by decide) rfl (fun c_64 => ?_) (fun c_64 => ?_)
        · refine j_aload_n C dX14_isRight_89 rfl 90 rfl ?_
          refine j_aload C dX14_isRight_90 rfl 92 rfl ?_
          refine j_iconst (v := nI 0) C dX14_isRight_92 (by decide) 93 rfl ?_
          refine j_aload_n C dX14_isRight_93 rfl 94 rfl ?_
          refine gf_X14_45_14 C hP2.1 (c' := st) hP2.2.1 dX14_isRight_94 97 rfl ?_
          refine j_iload C dX14_isRight_97 rfl 99 rfl ?_
          refine j_bipush (v := nI 8) C dX14_isRight_99 (by decide) 101 rfl ?_
          refine n_imul C dX14_isRight_101 102 rfl ?_
          refine j_aload C dX14_isRight_102 rfl 104 rfl ?_
          refine j_iconst (v := nI 0) C dX14_isRight_104 (by decide) 105 rfl ?_
          refine j_cv C (cs_X14_49 C (ct_X6_join (I := I3) (nx := 8) (ny := n8) (x := N + 1) (xf := 0) (y := st) (yf := d * 8) (to := N + 1) (nt := 8) (at_ := 0) (h - 1) (by omega) hG2.mx gl_up_eq (by omega) (by omega) (by omega) hP2.2.2.1 (by omega) (by omega) (by omega) gl_up_eq (by omega) (by decide) (by decide)) hG2.mx.1 rfl (by omega) (by omega) (by omega) rfl (Nat.le_of_ble_eq_true rfl) dX14_isRight_105) 108 rfl ?_
          rintro _ rfl
          refine j_iinc C dX14_isRight_108 rfl rfl (by rw [hnL]; decide) rfl 111 rfl ?_
          refine j_goto (tgt := 51) C dX14_isRight_111 (by decide) ?_
          have ej : gl_join (fun t => I3 (N + 1) (0 + t)) (fun t => I3 st (d * 8 + t)) = gl_join acc ((fun u t => stp (u * 8 + t)) d) := gl_join_congr (fun t ht => by rw [Nat.zero_add]; exact hac t ht) (fun t ht => by rw [hF st (by omega) hsN]; exact hP.2.2.2.2.1 (d * 8 + t) (by omega))
          rw [ej]
          refine ih (by omega) (gl_join acc ((fun u t => stp (u * 8 + t)) d)) _ (fun c q1 q2 => ?_) (fun t ht => ?_) (fun t ht => ?_) ?_
          · rw [gl_up_ne (by omega), gl_m1_o (by omega) (by omega)]; exact hF c q1 q2
          · rw [gl_up_ne (by omega), gl_m1_o (by omega) (by omega)]; exact hwy t ht
          · rw [gl_up_eq, pk_cpy_in (by omega) (by omega)]; congr 1; omega
          · rw [← htg, gl_wup, if_neg (by rw [c_64]; decide)]
        · refine j_aload_n C dX14_isRight_67 rfl 68 rfl ?_
          refine j_aload_n C dX14_isRight_68 rfl 69 rfl ?_
          refine gf_X14_45_14 C hP2.1 (c' := st) hP2.2.1 dX14_isRight_69 72 rfl ?_
          refine j_iload C dX14_isRight_72 rfl 74 rfl ?_
          refine j_bipush (v := nI 8) C dX14_isRight_74 (by decide) 76 rfl ?_
          refine n_imul C dX14_isRight_76 77 rfl ?_
          refine j_aload C dX14_isRight_77 rfl 79 rfl ?_
          refine j_iconst (v := nI 0) C dX14_isRight_79 (by decide) 80 rfl ?_
          refine j_aload C dX14_isRight_80 rfl 82 rfl ?_
          refine j_iconst (v := nI 0) C dX14_isRight_82 (by decide) 83 rfl ?_
          refine j_cv C (cs_X14_49 C (ct_X6_join (I := I3) (nx := n8) (ny := 8) (x := st) (xf := d * 8) (y := N + 1) (yf := 0) (to := N + 1) (nt := 8) (at_ := 0) (h - 1) (by omega) hG2.mx hP2.2.2.1 (by omega) (by omega) (by omega) gl_up_eq (by omega) (by omega) (by omega) gl_up_eq (by omega) (by decide) (by decide)) hG2.mx.1 rfl (by omega) (by omega) (by omega) rfl (Nat.le_of_ble_eq_true rfl) dX14_isRight_83) 86 rfl ?_
          rintro _ rfl
          refine j_goto (tgt := 108) C dX14_isRight_86 (by decide) ?_
          refine j_iinc C dX14_isRight_108 rfl rfl (by rw [hnL]; decide) rfl 111 rfl ?_
          refine j_goto (tgt := 51) C dX14_isRight_111 (by decide) ?_
          have ej : gl_join (fun t => I3 st (d * 8 + t)) (fun t => I3 (N + 1) (0 + t)) = gl_join ((fun u t => stp (u * 8 + t)) d) acc := gl_join_congr (fun t ht => by rw [hF st (by omega) hsN]; exact hP.2.2.2.2.1 (d * 8 + t) (by omega)) (fun t ht => by rw [Nat.zero_add]; exact hac t ht)
          rw [ej]
          refine ih (by omega) (gl_join ((fun u t => stp (u * 8 + t)) d) acc) _ (fun c q1 q2 => ?_) (fun t ht => ?_) (fun t ht => ?_) ?_
          · rw [gl_up_ne (by omega), gl_m1_o (by omega) (by omega)]; exact hF c q1 q2
          · rw [gl_up_ne (by omega), gl_m1_o (by omega) (by omega)]; exact hwy t ht
          · rw [gl_up_eq, pk_cpy_in (by omega) (by omega)]; congr 1; omega
          · rw [← htg, gl_wup, if_pos c_64]
  refine j_aload_n C dX14_isRight_0 rfl 1 rfl ?_
  refine gf_X14_24 C hA.o dX14_isRight_1 4 rfl ?_
  refine j_aload_n C dX14_isRight_4 rfl 5 rfl ?_
  refine gf_X14_29_14 C hP.1 dX14_isRight_5 8 rfl ?_
  rw [hP.2.2.2.1 0 (Or.inl (by decide)), hv0]
  refine j_icmp_eq C 13 11 dX14_isRight_8 (by decide) rfl (fun c_8 => ?_) (fun c_8 => ?_)
  · refine j_bipush (v := nI 8) C dX14_isRight_13 (by decide) 15 rfl ?_
    refine j_newarrI C (by decide) (by omega) (by omega) dX14_isRight_15 17 rfl ?_
    refine j_astore C dX14_isRight_17 (Nat.le_of_ble_eq_true rfl) (by rw [hnL]; decide) rfl 19 rfl ?_
    refine j_bipush (v := nI 8) C dX14_isRight_19 (by decide) 21 rfl ?_
    refine j_newarrI C (by decide) (by omega) (by omega) dX14_isRight_21 23 rfl ?_
    refine j_astore C dX14_isRight_23 (Nat.le_of_ble_eq_true rfl) (by rw [hnL]; decide) rfl 25 rfl ?_
    refine j_aload_n C dX14_isRight_25 rfl 26 rfl ?_
    refine j_aload_n C dX14_isRight_26 rfl 27 rfl ?_
    refine gf_X14_9_14 C hP2.1 dX14_isRight_27 30 rfl ?_
    rw [show (va_up (va_up I N (fun _ => 0)) (N + 1) (fun _ => 0)) p 5 = v 5 by simp (disch := omega) only [gl_u2_eq, gl_u2_ne, gl_up_eq, gl_up_ne]; exact hP.2.2.2.1 5 (Or.inr (Or.inl ⟨by decide, by decide⟩))]
    refine j_aload C dX14_isRight_30 rfl 32 rfl ?_
    refine j_iconst (v := nI 0) C dX14_isRight_32 (by decide) 33 rfl ?_
    refine j_cv C (cs_X14_30 C (ct_X6_way (to := N) (nt := 8) (at_ := 0) (h - 1) (by omega) hG2.mx (by show va_up (va_up sh N (0, 8)) (N + 1) (0, 8) N = (0, 8); rw [gl_up_ne (by omega), gl_up_eq]) (by omega) (by decide) (by decide)) hG2.mx.1 rfl (by omega) (by omega) (by omega) rfl (Nat.le_of_ble_eq_true rfl) dX14_isRight_33) 36 rfl ?_
    rintro _ rfl
    refine j_aload_n C dX14_isRight_36 rfl 37 rfl ?_
    refine j_aload_n C dX14_isRight_37 rfl 38 rfl ?_
    refine j_aload C dX14_isRight_38 rfl 40 rfl ?_
    refine j_cv C (cs_X14_34_14 C (ct_X15_end (I := (va_up (gl_m1 (va_up (va_up I N (fun _ => 0)) (N + 1) (fun _ => 0)) 690 691 (gl_way (v 5)) 2) N (va_cpy (gl_way (v 5)) ((va_up (va_up I N (fun _ => 0)) (N + 1) (fun _ => 0)) N) 0 0 8))) (p := p) (x := 0) (to := N + 1) (h - 1) (by omega) hG2 hP2.1 gl_up_eq (by omega)) (xx := 0) hP2.1 rfl (by omega) (by omega) (by omega) rfl (Nat.le_of_ble_eq_true rfl) dX14_isRight_40) 43 rfl ?_
    rintro _ ⟨I3, rfl, h3, ht3⟩
    have hW1 : ∀ c, c < N → c ≠ 690 → c ≠ 691 → (va_up (gl_m1 (va_up (va_up I N (fun _ => 0)) (N + 1) (fun _ => 0)) 690 691 (gl_way (v 5)) 2) N (va_cpy (gl_way (v 5)) ((va_up (va_up I N (fun _ => 0)) (N + 1) (fun _ => 0)) N) 0 0 8)) c = I c := fun c q1 q2 q3 => by rw [gl_up_ne (by omega), gl_m1_o q2 q3]; simp (disch := omega) only [gl_u2_eq, gl_u2_ne, gl_up_eq, gl_up_ne]
    have hF3 : (∀ c, c < 690 ∨ 692 ≤ c → c < N → I3 c = I c) := fun c q1 q2 => by rw [h3 c (by omega) (by omega) (by omega), hW1 c q2 (by omega) (by omega)]
    refine j_aload_n C dX14_isRight_43 rfl 44 rfl ?_
    refine gf_X14_38_14 C hP2.1 dX14_isRight_44 47 rfl ?_
    rw [show I3 p 3 = v 3 from (congrFun (hF3 p (by omega) hpN) 3).trans (hP.2.2.2.1 3 (Or.inl (by decide))), hv3]
    refine j_iconst (v := nI 1) C dX14_isRight_47 (by decide) 48 rfl ?_
    refine j_isub C dX14_isRight_48 49 rfl ?_
    rw [gl_nm]
    refine j_istore C dX14_isRight_49 (Nat.le_of_ble_eq_true rfl) (by rw [hnL]; decide) rfl 51 rfl ?_
    refine loop c_8 mn (Nat.le_refl _) (if v 6 < 0 then gl_zr else gl_leaf (v 7) (v 6)) I3 hF3 (fun t ht => ?_) (fun t ht => ?_) rfl
    · rw [h3 N (by omega) (by omega) (by omega), gl_up_eq, pk_cpy_in (by omega) (by omega)]; congr 1; omega
    · rw [ht3, pk_cpy_in (by omega) (by omega), hW1 p hpN (by omega) (by omega), hP.2.2.2.1 7 (Or.inr (Or.inr ⟨rfl, rfl⟩)), hP.2.2.2.1 6 (Or.inr (Or.inl ⟨by decide, by decide⟩))]
      rw [show 0 + (t - 0) = t by omega]
  · refine j_iconst (v := b2i false) C dX14_isRight_11 (by decide) 12 rfl ?_
    exact j_zret C hQ ⟨by rw [decide_eq_false c_8]; rfl, _, _, _, _, _, _, rfl, gl_xt.rf⟩ (by omega) (by omega) dX14_isRight_12
set_option maxHeartbeats 4000000 in
set_option maxRecDepth 100000 in
theorem ct_X15_isRight {l : Launch} {δ : gl_Del} {N : Nat} {sh : Nat → Nat × Nat} {I : Nat → Nat → Int32} {L : Nat → Nat → Int64} {B : Nat → Nat → Bool} {R : Nat → Nat → Option Nat} {p st kl vl a : Nat} {v : Nat → Int32} {n8 m nn mn : Nat} {stp ks : Nat → Int32} {vs : Nat → Int64} (h : Nat) (hh : 6 ≤ h) (hG : gl_GL (N, sh) R) (hN : 707 ≤ N) (hP : gl_pf (N, sh) I L R p st kl vl 14 v n8 stp m ks vs) (hpN : p < N) (hp7 : 707 ≤ p) (hsN : st < N) (hs7 : 707 ≤ st) (hn8 : n8 < 2 ^ 24) (hv0 : v 0 = nI nn) (hv3 : v 3 = nI mn) (hmn : mn ≤ 256) (hm8 : mn * 8 ≤ n8) (hA : gl_DL (N, sh) R a) (ha : a + 4 ≤ 690) : gl_Ct l δ yX15_isRight (ws_ yX15_isRight cX15_isRight 5 ((some FieldType.boolean))) (gl_rm h 2 16) 2 16 [.ref p, .ref 690, .ref 692, .ref a, .null] ((N, sh), I, L, B, R) (gl_Qi fun r S => r = b2i (!decide (0 ≤ v 6 ∧ v 7 = v 5) && (decide (I a 3 = nI nn) && gl_lk (gl_wup (fun u t => stp (u * 8 + t)) (fun d => gl_bit (gl_way (v 5)) d) mn (if v 6 < 0 then gl_zr else gl_leaf (v 7) (v 6))) (I (a + 2)) 8)) ∧ ∃ N' sh' I' L' B' R', S = ((N', sh'), I', L', B', R') ∧ gl_xt 690 692 N N' sh sh' I I' L L' B B' R R') := by
  refine gl_of (by decide) (Nat.le_of_ble_eq_true rfl) rfl ?_
  intro κ C hQ hlκ hδκ hnL hini
  change gl_Cx κ RX15 _ _ _ at C
  refine j_aload_n C dX15_isRight_0 rfl 1 rfl ?_
  refine gf_X15_15 C hP.1 dX15_isRight_1 4 rfl ?_
  rw [hP.2.2.2.1 6 (Or.inr (Or.inl ⟨by decide, by decide⟩))]
  refine j_if_lt C 18 7 dX15_isRight_4 (by decide) rfl (fun c_4 => ?_) (fun c_4 => ?_)
  · refine j_aload_n C dX15_isRight_18 rfl 19 rfl ?_
    refine j_aload_n C dX15_isRight_19 rfl 20 rfl ?_
    refine j_aload_n C dX15_isRight_20 rfl 21 rfl ?_
    refine j_aload_n C dX15_isRight_21 rfl 22 rfl ?_
    refine j_aloadN C dX15_isRight_22 rfl 24 rfl ?_
    refine j_ci C (cs_X15_31 C (ct_X14_isRight_14 (p := p) (st := st) (kl := kl) (vl := vl) (a := a) (v := v) (n8 := n8) (m := m) (nn := nn) (mn := mn) (stp := stp) (ks := ks) (vs := vs) (h - 1) (by omega) hG hN hP hpN hp7 hsN hs7 hn8 hv0 hv3 hmn hm8 hA ha) (xx := 0) hP.1 rfl (by omega) (by omega) (by omega) rfl (Nat.le_of_ble_eq_true rfl) dX15_isRight_24) 27 rfl ?_
    rintro _ _ ⟨rfl, N', sh', I', L', B', R', rfl, hx⟩
    refine b_if_eq C 34 30 dX15_isRight_27 (by decide) rfl (fun c_27 => ?_) (fun c_27 => ?_)
    · refine j_iconst (v := b2i false) C dX15_isRight_34 (by decide) 35 rfl ?_
      exact j_zret C hQ ⟨by rw [decide_eq_false (fun q => absurd c_4 (Int32.not_lt.mpr q.1)), c_27]; rfl, _, _, _, _, _, _, rfl, hx⟩ (by omega) (by omega) dX15_isRight_35
    · refine j_iconst (v := b2i true) C dX15_isRight_30 (by decide) 31 rfl ?_
      refine j_goto (tgt := 35) C dX15_isRight_31 (by decide) ?_
      exact j_zret C hQ ⟨by rw [decide_eq_false (fun q => absurd c_4 (Int32.not_lt.mpr q.1)), c_27]; rfl, _, _, _, _, _, _, rfl, hx⟩ (by omega) (by omega) dX15_isRight_35
  · refine j_aload_n C dX15_isRight_7 rfl 8 rfl ?_
    refine gf_X15_9 C hP.1 dX15_isRight_8 11 rfl ?_
    rw [hP.2.2.2.1 7 (Or.inr (Or.inr ⟨rfl, rfl⟩))]
    refine j_aload_n C dX15_isRight_11 rfl 12 rfl ?_
    refine gf_X15_28 C hP.1 dX15_isRight_12 15 rfl ?_
    rw [hP.2.2.2.1 5 (Or.inr (Or.inl ⟨by decide, by decide⟩))]
    refine j_icmp_eq C 34 18 dX15_isRight_15 (by decide) rfl (fun c_15 => ?_) (fun c_15 => ?_)
    · refine j_iconst (v := b2i false) C dX15_isRight_34 (by decide) 35 rfl ?_
      exact j_zret C hQ ⟨by rw [decide_eq_true ⟨Int32.not_lt.mp c_4, c_15⟩]; rfl, _, _, _, _, _, _, rfl, gl_xt.rf⟩ (by omega) (by omega) dX15_isRight_35
    · refine j_aload_n C dX15_isRight_18 rfl 19 rfl ?_
      refine j_aload_n C dX15_isRight_19 rfl 20 rfl ?_
      refine j_aload_n C dX15_isRight_20 rfl 21 rfl ?_
      refine j_aload_n C dX15_isRight_21 rfl 22 rfl ?_
      refine j_aloadN C dX15_isRight_22 rfl 24 rfl ?_
      refine j_ci C (cs_X15_31 C (ct_X14_isRight_14 (p := p) (st := st) (kl := kl) (vl := vl) (a := a) (v := v) (n8 := n8) (m := m) (nn := nn) (mn := mn) (stp := stp) (ks := ks) (vs := vs) (h - 1) (by omega) hG hN hP hpN hp7 hsN hs7 hn8 hv0 hv3 hmn hm8 hA ha) (xx := 0) hP.1 rfl (by omega) (by omega) (by omega) rfl (Nat.le_of_ble_eq_true rfl) dX15_isRight_24) 27 rfl ?_
      rintro _ _ ⟨rfl, N', sh', I', L', B', R', rfl, hx⟩
      refine b_if_eq C 34 30 dX15_isRight_27 (by decide) rfl (fun c_27 => ?_) (fun c_27 => ?_)
      · refine j_iconst (v := b2i false) C dX15_isRight_34 (by decide) 35 rfl ?_
        exact j_zret C hQ ⟨by rw [decide_eq_false (fun q => c_15 q.2), c_27]; rfl, _, _, _, _, _, _, rfl, hx⟩ (by omega) (by omega) dX15_isRight_35
      · refine j_iconst (v := b2i true) C dX15_isRight_30 (by decide) 31 rfl ?_
        refine j_goto (tgt := 35) C dX15_isRight_31 (by decide) ?_
        exact j_zret C hQ ⟨by rw [decide_eq_false (fun q => c_15 q.2), c_27]; rfl, _, _, _, _, _, _, rfl, hx⟩ (by omega) (by omega) dX15_isRight_35
