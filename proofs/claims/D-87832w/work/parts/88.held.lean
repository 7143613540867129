/-! MODULE GlassLog, proofs shown: held, absent (by gen88.py) -/
set_option maxRecDepth 100000
theorem gl_dn_len1 {α : Type} {lf : α → Nat → Int32} {bt : Nat → α → Bool} {kb : Nat → Bool} : ∀ (f d : Nat) (l : List α), gl_tok bt f d l → (gl_dn lf bt kb f d l).2.length ≤ 1
  | 0, d, l, h => h
  | f + 1, d, l, h => by
    unfold gl_dn
    by_cases h1 : l.length ≤ 1
    · rw [if_pos h1]; exact h1
    · rw [if_neg h1]
      have h2 := h.resolve_left h1
      by_cases hk : kb d = true
      · rw [if_pos hk]; exact gl_dn_len1 f (d + 1) _ h2.2
      · rw [if_neg hk]; exact gl_dn_len1 f (d + 1) _ h2.1
/-- a key of a map is found at its way's end -/
theorem gl_mdn_self {m : gl_Mp} {q : Int32 × Nat} (hs : gl_srt m) (hq : q ∈ m) : (gl_mdn m q.1).2 = [q] := by
  have h1 : q ∈ (gl_mdn m q.1).2 := gl_dn_self 256 0 m (fun e _ _ => rfl) hq
  have h2 : (gl_mdn m q.1).2.length ≤ 1 := gl_dn_len1 256 0 m (gl_tok_keys (gl_srt_pw hs))
  match hm : (gl_mdn m q.1).2, h1, h2 with
  | [x], h1, _ => rw [List.mem_singleton.mp h1]
  | x :: y :: t, _, h2 => simp at h2
theorem gl_lb_hit {K : Nat → Int32} {ky : Int32} : ∀ {i v : Nat}, i ≤ 400 → gl_lb K ky i = nI v → v < 400 → v < i ∧ K v = ky
  | 0, v, _, h, hv => absurd h (by
      show ¬ (-1 : Int32) = nI v
      intro q
      have := nI_pos (n := v) (by omega)
      rw [← q] at this
      exact this (by decide))
  | i + 1, v, hi, h, hv => by
    unfold gl_lb at h
    by_cases hq : K i = ky
    · rw [if_pos hq] at h
      have := (nI_eq (by omega) (by omega)).mp h
      subst this
      exact ⟨by omega, hq⟩
    · rw [if_neg hq] at h
      obtain ⟨z1, z2⟩ := gl_lb_hit (by omega) h hv
      exact ⟨by omega, z2⟩
/-- a key that has a latest stands in the map -/
theorem gl_mq_in {K f : Nat → Int32} {sn : Nat → Nat} {lg : Nat → Bool} {wn n : Nat} {m : gl_Mp} {ky : Int32} (h : gl_mq K f sn lg wn n m) (hn : n ≤ 400) (hs : ∀ w, w < wn → sn w ≤ 400) (hl : ¬ gl_lat K f sn lg wn n ky < 0) : ∃ v, v < 400 ∧ gl_lat K f sn lg wn n ky = nI v ∧ (ky, v) ∈ m := by
  rcases gl_lat_or (K := K) (f := f) (sn := sn) (lg := lg) (wn := wn) (n := n) (ky := ky) hn hs with q | ⟨v, hv, q⟩
  · rw [q] at hl; exact absurd (by decide) hl
  · refine ⟨v, hv, q, (h.2.2 (ky, v)).mpr ⟨hv, q, ?_⟩⟩
    have q2 := q
    unfold gl_lat at q2
    have hne : ∀ v : Nat, v < 400 → ¬ (-1 : Int32) = nI v := fun v hv q => by
      have := nI_pos (n := v) (by omega)
      rw [← q] at this
      exact this (by decide)
    by_cases h1 : gl_ff f ky wn 0 < wn ∧ sn (gl_ff f ky wn 0) ≤ n
    · rw [if_pos h1] at q2
      by_cases h2 : lg (gl_ff f ky wn 0) = true
      · rw [if_pos h2] at q2
        obtain ⟨z1, z2⟩ := gl_lb_hit (hs _ h1.1) q2 hv
        exact ⟨v, Nat.zero_le _, by omega, z2⟩
      · rw [if_neg h2] at q2
        exact absurd q2 (hne v hv)
    · rw [if_neg h1] at q2
      obtain ⟨z1, z2⟩ := gl_lb_hit hn q2 hv
      exact ⟨v, Nat.zero_le _, z1, z2⟩
set_option maxHeartbeats 4000000 in
set_option maxRecDepth 100000 in
theorem ct_X0_held {l : Launch} {δ : gl_Del} {N : Nat} {sh : Nat → Nat × Nat} {I : Nat → Nat → Int32} {L : Nat → Nat → Int64} {B : Nat → Nat → Bool} {R : Nat → Nat → Option Nat} {lm : Nat} {mn wn : Nat → Nat} {sn : Nat → Nat → Nat} {x y n ky : Int32} (h : Nat) (hh : 265 ≤ h) (hG : gl_GL (N, sh) R) (hN : 707 ≤ N) (H : gl_gL I 1 lm mn wn sn) : gl_Ct l δ yX0_held (ws_ yX0_held cX0_held 6 ((some FieldType.int))) (gl_rm h 3 2063) 3 2063 [.ref 0, .int x, .int y, .int n, .int ky] ((N, sh), I, L, B, R) (gl_Qi fun r S => if (gl_in x 16 = true ∧ gl_gic lm mn y n = true ∧ ¬ (gl_lat (I ((1 + 7 + 19 * y.toNatClampNeg) + 1)) (I ((1 + 7 + 19 * y.toNatClampNeg) + 2)) (sn y.toNatClampNeg) (B ((1 + 7 + 19 * y.toNatClampNeg) + 7)) (wn y.toNatClampNeg) n.toNatClampNeg ky) < 0) then ∃ mp, gl_mq (I ((1 + 7 + 19 * y.toNatClampNeg) + 1)) (I ((1 + 7 + 19 * y.toNatClampNeg) + 2)) (sn y.toNatClampNeg) (B ((1 + 7 + 19 * y.toNatClampNeg) + 7)) (wn y.toNatClampNeg) n.toNatClampNeg mp ∧ r = nI (gl_mdn mp ky).1.length ∧ ∃ N' sh' I' L' B' R', S = ((N', sh'), I', L', B', R') ∧ gl_np x.toNatClampNeg N N' sh sh' I I' L L' B B' R R' 13 (gl_v8 (nI n.toNatClampNeg) (nI 0) (nI 0) (nI (gl_mdn mp ky).1.length) ky (gl_alL (gl_mdn mp ky).2) 0) (gl_mdn mp ky).1 0 (fun _ => 0) (fun _ => 0) else r = -1 ∧ S = ((N, sh), I, L, B, R)) := by
  refine gl_of (by decide) (Nat.le_of_ble_eq_true rfl) rfl ?_
  intro κ C hQ hlκ hδκ hnL hini
  change gl_Cx κ RX0 _ _ _ at C
  refine j_iload_n C dX0_held_0 rfl 1 rfl ?_
  refine j_ci C (cs_X0_224 C (ct_X0_isSlot (h - 1) (by omega)) rfl (by omega) (by omega) (by omega) rfl (Nat.le_of_ble_eq_true rfl) dX0_held_1) 4 rfl ?_
  rintro _ _ ⟨rfl, rfl⟩
  refine b_if_eq C 34 7 dX0_held_4 (by decide) rfl (fun c_4 => ?_) (fun c_4 => ?_)
  · refine j_iconst (v := -1) C dX0_held_34 (by decide) 35 rfl ?_
    exact j_iret C hQ (by rw [if_neg (fun q => by rw [c_4] at q; exact absurd q.1 (by decide))]; exact ⟨rfl, rfl⟩) (by omega) (by omega) dX0_held_35
  · refine j_aload_n C dX0_held_7 rfl 8 rfl ?_
    refine j_iload_n C dX0_held_8 rfl 9 rfl ?_
    refine j_iload_n C dX0_held_9 rfl 10 rfl ?_
    refine j_ci C (cs_X0_84 C (ct_X0_isCount (h - 1) (by omega) hG H) hG.o rfl (by omega) (by omega) (by omega) rfl (Nat.le_of_ble_eq_true rfl) dX0_held_10) 13 rfl ?_
    rintro _ _ ⟨rfl, rfl⟩
    refine b_if_eq C 34 16 dX0_held_13 (by decide) rfl (fun c_13 => ?_) (fun c_13 => ?_)
    · refine j_iconst (v := -1) C dX0_held_34 (by decide) 35 rfl ?_
      exact j_iret C hQ (by rw [if_neg (fun q => by rw [c_13] at q; exact absurd q.2.1 (by decide))]; exact ⟨rfl, rfl⟩) (by omega) (by omega) dX0_held_35
    · obtain ⟨lg, m, hlg, hmm, rfl, rfl⟩ := (gl_gic_iff H.2.1 (fun k hk => (H.2.2 k hk).2.1)).mp c_13
      have hl6 := H.2.1
      have hL := hG.hs.lg lg (by omega)
      obtain ⟨hn9, hn4, hw10, hw1, hsn⟩ := H.2.2 lg hlg
      have hcl : (nI lg).toNatClampNeg = lg := nI_clamp (by omega)
      have hcm : (nI m).toNatClampNeg = m := nI_clamp (by omega)
      obtain ⟨s, hs, rfl⟩ := (gl_in_iff (by decide)).mp c_4
      have hcs : (nI s).toNatClampNeg = s := nI_clamp (by omega)
      refine j_aload_n C dX0_held_16 rfl 17 rfl ?_
      refine gf_X0_12 C hG.o hG.r0 dX0_held_17 20 rfl ?_
      refine gf_X0_65 C hG.hs.o hG.hs.r0 dX0_held_20 23 rfl ?_
      refine j_iload_n C dX0_held_23 rfl 24 rfl ?_
      refine j_aald C (by decide) hG.hs.k1 (by omega) (by decide) dX0_held_24 25 rfl ?_
      rw [hG.hs.lr lg (by omega)]
      change gl_J _ _ _ _ _ _ (Value.ref _ :: _)
      refine j_iload_n C dX0_held_25 rfl 26 rfl ?_
      refine j_iload C dX0_held_26 rfl 28 rfl ?_
      refine j_ci C (cs_X0_117 C (ct_X2_latest (lo := (1 + 7 + 19 * lg)) (wn := wn lg) (n := m) (sn := sn lg) (h - 1) (by omega) hL hw10 hw1 (fun w hw => (hsn w hw).1) (fun w hw => (hsn w hw).2) (by omega)) hL.o rfl (by omega) (by omega) (by omega) rfl (Nat.le_of_ble_eq_true rfl) dX0_held_28) 31 rfl ?_
      rintro _ _ ⟨rfl, rfl⟩
      refine j_if_ge C 36 34 dX0_held_31 (by decide) rfl (fun c_31 => ?_) (fun c_31 => ?_)
      · have hG1 : gl_GL (N + 1, (va_up sh N (21, 0))) (va_up R N (fun _ => none)) := hG.new hN
        have hL1 : gl_LL (N + 1, (va_up sh N (21, 0))) (va_up R N (fun _ => none)) (1 + 7 + 19 * lg) := hL.of_eq (fun c q1 q2 => gl_up_ne (by omega)) (fun c j q1 q2 => by rw [gl_up_ne (by omega)])
        have hG2 : gl_GL (N + 1 + 1, (va_up (va_up sh N (21, 0)) (N + 1) (0, 8))) (va_up (va_up R N (fun _ => none)) (N + 1) (fun _ => none)) := hG1.new (by omega)
        refine nw_X0_237 C (by omega) (by omega) dX0_held_36 39 rfl ?_
        refine j_dup C dX0_held_39 rfl 40 rfl ?_
        refine j_cv C (cs_X0_239 C (ct_X14_new (h - 1) (by omega)) rfl (by omega) (by omega) (by omega) rfl (Nat.le_of_ble_eq_true rfl) dX0_held_40) 43 rfl ?_
        rintro _ rfl
        refine j_astore C dX0_held_43 (Nat.le_of_ble_eq_true rfl) (by rw [hnL]; decide) rfl 45 rfl ?_
        refine j_aload_n C dX0_held_45 rfl 46 rfl ?_
        refine gf_X0_35 C hG1.o hG1.r3 dX0_held_46 49 rfl ?_
        refine j_aload_n C dX0_held_49 rfl 50 rfl ?_
        refine gf_X0_12 C hG1.o hG1.r0 dX0_held_50 53 rfl ?_
        refine gf_X0_65 C hG1.hs.o hG1.hs.r0 dX0_held_53 56 rfl ?_
        refine j_iload_n C dX0_held_56 rfl 57 rfl ?_
        refine j_aald C (by decide) hG1.hs.k1 (by omega) (by decide) dX0_held_57 58 rfl ?_
        rw [hG1.hs.lr lg (by omega)]
        change gl_J _ _ _ _ _ _ (Value.ref _ :: _)
        refine j_iload_n C dX0_held_58 rfl 59 rfl ?_
        refine j_cv C (cs_X0_106 C (ct_X8_of (I := (va_up I N (fun _ => 0))) (lo := (1 + 7 + 19 * lg)) (n := m) (wn := wn lg) (sn := sn lg) (h - 1) (by omega) hG1 hL1 (by omega) (by omega) (by rw [gl_up_ne (by omega)]; exact hw10) hw1 (fun w hw => by rw [gl_up_ne (by omega)]; exact (hsn w hw).1) (fun w hw => (hsn w hw).2)) hG1.m0 rfl (by omega) (by omega) (by omega) rfl (Nat.le_of_ble_eq_true rfl) dX0_held_59) 62 rfl ?_
        rintro _ ⟨I3, mp, rfl, hf3, hm3, hs3, hl3, hq3⟩
        rw [gl_up_ne (show (1 + 7 + 19 * lg) + 1 ≠ N by omega), gl_up_ne (show (1 + 7 + 19 * lg) + 2 ≠ N by omega), gl_up_ne (show (1 + 7 + 19 * lg) + 7 ≠ N by omega)] at hq3
        have hmq : gl_mq (I ((1 + 7 + 19 * lg) + 1)) (I ((1 + 7 + 19 * lg) + 2)) (sn lg) (B ((1 + 7 + 19 * lg) + 7)) (wn lg) m mp := ⟨hs3, hl3, hq3⟩
        have e3 : ∀ c, c < N → c < 690 ∨ 701 ≤ c → I3 c = I c := fun c q1 q2 => by rw [hf3 c (by omega), gl_up_ne (by omega)]
        refine j_aload_n C dX0_held_62 rfl 63 rfl ?_
        refine gf_X0_35 C hG1.o hG1.r3 dX0_held_63 66 rfl ?_
        refine j_iload C dX0_held_66 rfl 68 rfl ?_
        refine j_aload_n C dX0_held_68 rfl 69 rfl ?_
        refine gf_X0_46 C hG1.o hG1.r5 dX0_held_69 72 rfl ?_
        refine j_cv C (cs_X0_240 C (ct_X8_down (N := N + 1) (I := I3) (m := mp) (ky := ky) (h - 1) (by omega) hG1 (by omega) hm3 (by omega) hs3) hG1.m0 rfl (by omega) (by omega) (by omega) rfl (Nat.le_of_ble_eq_true rfl) dX0_held_72) 75 rfl ?_
        rintro _ ⟨I4, rfl, hF4, hm4, hrw4, h7, h8⟩
        have e4 : ∀ c, c < N → c < 690 ∨ 707 ≤ c → I4 c = I c := fun c q1 q2 => by rw [hF4 c (by omega) (by omega) (by omega) (by omega) (by omega) (by omega)]; exact e3 c q1 (by omega)
        have hlen := gl_dn_len (lf := fun q => gl_leaf (q : Int32 × Nat).1 (nI q.2)) (bt := fun d q => gl_bit (gl_way (q : Int32 × Nat).1) d) (kb := fun d => gl_bit (gl_way ky) d) 256 0 mp
        have hlen : (gl_mdn mp ky).1.length ≤ 256 := hlen
        obtain ⟨v0, hv0, hlv, hmem⟩ := gl_mq_in hmq (by omega) (fun w hw => (hsn w hw).2) (Int32.not_lt.mpr c_31)
        have hdn : (gl_mdn mp ky).2 = [(ky, v0)] := gl_mdn_self (q := (ky, v0)) hs3 hmem
        obtain ⟨i0, hi0, hal, hat⟩ : ∃ i, i < mp.length ∧ I4 695 8 = nI i ∧ gl_at mp i = (ky, v0) := by
          rcases h8 with ⟨z1, _⟩ | ⟨q, i, z1, z2, z3, z4⟩
          · rw [hdn] at z1; cases z1
          · rw [hdn] at z1
            exact ⟨i, z2, z3, by rw [z4]; exact (List.cons.inj z1).1.symm⟩
        have hall : gl_alL (gl_mdn mp ky).2 = nI v0 := by rw [hdn]; rfl
        refine j_aload C dX0_held_75 rfl 77 rfl ?_
        refine j_iload C dX0_held_77 rfl 79 rfl ?_
        refine pf_X0_244_13 C (x := 0) (by show (va_up (va_up sh N (21, 0)) (N + 1) (0, 8)) N = _; rw [gl_up_ne (by omega), gl_up_eq]) dX0_held_79 82 rfl ?_
        refine j_aload C dX0_held_82 rfl 84 rfl ?_
        refine j_aload_n C dX0_held_84 rfl 85 rfl ?_
        refine gf_X0_35 C hG2.o hG2.r3 dX0_held_85 88 rfl ?_
        refine gf_X0_247 C hG2.m0 hG2.mr2 dX0_held_88 91 rfl ?_
        refine j_aload_n C dX0_held_91 rfl 92 rfl ?_
        refine gf_X0_35 C hG2.o hG2.r3 dX0_held_92 95 rfl ?_
        refine gf_X0_249 C hG2.m0 dX0_held_95 98 rfl ?_
        rw [gl_u2_ne (show 695 ≠ N by omega), hal]
        refine j_iald C hG2.m2 (by omega) (by decide) dX0_held_98 99 rfl ?_
        rw [gl_u2_ne (show 697 ≠ N by omega), (hm4.2 i0 hi0).2.1, hat]
        refine pf_X0_252_13 C (x := 0) (by show (va_up (va_up sh N (21, 0)) (N + 1) (0, 8)) N = _; rw [gl_up_ne (by omega), gl_up_eq]) dX0_held_99 102 rfl ?_
        refine j_aload_n C dX0_held_102 rfl 103 rfl ?_
        refine j_iload_n C dX0_held_103 rfl 104 rfl ?_
        refine j_aload C dX0_held_104 rfl 106 rfl ?_
        refine j_iload_n C dX0_held_106 rfl 107 rfl ?_
        refine j_iconst (v := nI 0) C dX0_held_107 (by decide) 108 rfl ?_
        refine j_iconst (v := nI 0) C dX0_held_108 (by decide) 109 rfl ?_
        refine j_aload_n C dX0_held_109 rfl 110 rfl ?_
        refine gf_X0_35 C hG2.o hG2.r3 dX0_held_110 113 rfl ?_
        refine gf_X0_254 C hG2.m0 dX0_held_113 116 rfl ?_
        rw [gl_u2_ne (show 695 ≠ N by omega), gl_u2_ne (show 695 ≠ N by omega), h7]
        refine j_ci C (cs_X0_220 C (ct_X0_puts_13 (N := N + 1 + 1) (s := s) (p := N) (mn := (gl_mdn mp ky).1.length) (h - 1) (by omega) hG2 (by omega) hs (by rw [gl_up_ne (by omega), gl_up_eq]) (by omega) hN (by omega)) hG2.o rfl (by omega) (by omega) (by omega) rfl (Nat.le_of_ble_eq_true rfl) dX0_held_116) 119 rfl ?_
        rintro _ _ ⟨rfl, q, hq, rfl⟩
        exact j_iret C hQ (by
                  rw [if_pos ⟨c_4, c_13, by rw [hcl, hcm]; exact Int32.not_lt.mpr c_31⟩, hcs, hcl, hcm]
                  refine ⟨mp, hmq, rfl, N + 1 + 1 + 1, _, _, _, _, _, rfl, by omega, fun c hc => ⟨by simp (disch := omega) only [gl_u2_eq, gl_u2_ne, gl_up_eq, gl_up_ne], by simp (disch := omega) only [gl_u2_eq, gl_u2_ne, gl_up_eq, gl_up_ne], by simp (disch := omega) only [gl_u2_eq, gl_u2_ne, gl_up_eq, gl_up_ne], fun q1 => by simp (disch := omega) only [gl_u2_eq, gl_u2_ne, gl_up_eq, gl_up_ne], fun q1 => ?_⟩, N, N + 1 + 1, 0, 0, ⟨by omega, by omega, by omega, by omega, fun q_ => by omega⟩, by simp (disch := omega) only [gl_u2_eq, gl_u2_ne, gl_up_eq, gl_up_ne], ⟨by show va_up _ (N + 1 + 1) _ N = _; simp (disch := omega) only [gl_u2_eq, gl_u2_ne, gl_up_eq, gl_up_ne], by simp (disch := omega) only [gl_u2_eq, gl_u2_ne, gl_up_eq, gl_up_ne], by show va_up _ (N + 1 + 1) _ (N + 1 + 1) = _; simp (disch := omega) only [gl_u2_eq, gl_u2_ne, gl_up_eq, gl_up_ne], fun j hj => ?_, fun _ _ => rfl, fun q_ => by omega⟩, fun i hi j hj => ?_⟩
                  · simp (disch := omega) only [gl_u2_eq, gl_u2_ne, gl_up_eq, gl_up_ne]
                    exact e4 c hc q1
                  · have hj4 : j = 0 ∨ j = 1 ∨ j = 2 ∨ j = 3 ∨ j = 5 ∨ j = 6 := by unfold gl_fj at hj; omega
                    rcases hj4 with rfl | rfl | rfl | rfl | rfl | rfl
                    · simp (disch := omega) only [gl_u2_eq, gl_u2_ne, gl_up_eq, gl_up_ne]; rfl
                    · simp (disch := omega) only [gl_u2_eq, gl_u2_ne, gl_up_eq, gl_up_ne]; rfl
                    · simp (disch := omega) only [gl_u2_eq, gl_u2_ne, gl_up_eq, gl_up_ne]; rfl
                    · simp (disch := omega) only [gl_u2_eq, gl_u2_ne, gl_up_eq, gl_up_ne]; rfl
                    · simp (disch := omega) only [gl_u2_eq, gl_u2_ne, gl_up_eq, gl_up_ne]; rfl
                    · simp (disch := omega) only [gl_u2_eq, gl_u2_ne, gl_up_eq, gl_up_ne]; rw [hall]; rfl
                  · rw [gl_up_eq, hq _ (by omega), gl_u2_ne (show 705 ≠ N by omega), gl_u2_ne (show 705 ≠ N by omega), hrw4]
                    have := gl_wrs_at (base := 0) (gl_mdn mp ky).1 0 (I3 705) i hi j hj
                    rw [show 0 + 8 * (0 + i) + j = i * 8 + j by omega] at this
                    exact this) (by omega) (by omega) dX0_held_119
      · refine j_iconst (v := -1) C dX0_held_34 (by decide) 35 rfl ?_
        exact j_iret C hQ (by rw [if_neg (fun q => by have z := q.2.2; rw [hcl, hcm] at z; exact c_31 (Int32.not_lt.mp z))]; exact ⟨rfl, rfl⟩) (by omega) (by omega) dX0_held_35
set_option maxHeartbeats 4000000 in
set_option maxRecDepth 100000 in
theorem ct_X0_absent {l : Launch} {δ : gl_Del} {N : Nat} {sh : Nat → Nat × Nat} {I : Nat → Nat → Int32} {L : Nat → Nat → Int64} {B : Nat → Nat → Bool} {R : Nat → Nat → Option Nat} {lm : Nat} {mn wn : Nat → Nat} {sn : Nat → Nat → Nat} {x y n ky : Int32} (h : Nat) (hh : 265 ≤ h) (hG : gl_GL (N, sh) R) (hN : 707 ≤ N) (H : gl_gL I 1 lm mn wn sn) : gl_Ct l δ yX0_absent (ws_ yX0_absent cX0_absent 6 ((some FieldType.int))) (gl_rm h 3 2064) 3 2064 [.ref 0, .int x, .int y, .int n, .int ky] ((N, sh), I, L, B, R) (gl_Qi fun r S => if (gl_in x 16 = true ∧ gl_gic lm mn y n = true ∧ (gl_lat (I ((1 + 7 + 19 * y.toNatClampNeg) + 1)) (I ((1 + 7 + 19 * y.toNatClampNeg) + 2)) (sn y.toNatClampNeg) (B ((1 + 7 + 19 * y.toNatClampNeg) + 7)) (wn y.toNatClampNeg) n.toNatClampNeg ky) < 0) then ∃ mp, gl_mq (I ((1 + 7 + 19 * y.toNatClampNeg) + 1)) (I ((1 + 7 + 19 * y.toNatClampNeg) + 2)) (sn y.toNatClampNeg) (B ((1 + 7 + 19 * y.toNatClampNeg) + 7)) (wn y.toNatClampNeg) n.toNatClampNeg mp ∧ r = nI (gl_mdn mp ky).1.length ∧ ∃ N' sh' I' L' B' R', S = ((N', sh'), I', L', B', R') ∧ gl_np x.toNatClampNeg N N' sh sh' I I' L L' B B' R R' 14 (gl_v8 (nI n.toNatClampNeg) (nI 0) (nI 0) (nI (gl_mdn mp ky).1.length) ky (gl_alL (gl_mdn mp ky).2) (gl_alK (gl_mdn mp ky).2)) (gl_mdn mp ky).1 0 (fun _ => 0) (fun _ => 0) else r = -1 ∧ S = ((N, sh), I, L, B, R)) := by
  refine gl_of (by decide) (Nat.le_of_ble_eq_true rfl) rfl ?_
  intro κ C hQ hlκ hδκ hnL hini
  change gl_Cx κ RX0 _ _ _ at C
  refine j_iload_n C dX0_absent_0 rfl 1 rfl ?_
  refine j_ci C (cs_X0_224 C (ct_X0_isSlot (h - 1) (by omega)) rfl (by omega) (by omega) (by omega) rfl (Nat.le_of_ble_eq_true rfl) dX0_absent_1) 4 rfl ?_
  rintro _ _ ⟨rfl, rfl⟩
  refine b_if_eq C 34 7 dX0_absent_4 (by decide) rfl (fun c_4 => ?_) (fun c_4 => ?_)
  · refine j_iconst (v := -1) C dX0_absent_34 (by decide) 35 rfl ?_
    exact j_iret C hQ (by rw [if_neg (fun q => by rw [c_4] at q; exact absurd q.1 (by decide))]; exact ⟨rfl, rfl⟩) (by omega) (by omega) dX0_absent_35
  · refine j_aload_n C dX0_absent_7 rfl 8 rfl ?_
    refine j_iload_n C dX0_absent_8 rfl 9 rfl ?_
    refine j_iload_n C dX0_absent_9 rfl 10 rfl ?_
    refine j_ci C (cs_X0_84 C (ct_X0_isCount (h - 1) (by omega) hG H) hG.o rfl (by omega) (by omega) (by omega) rfl (Nat.le_of_ble_eq_true rfl) dX0_absent_10) 13 rfl ?_
    rintro _ _ ⟨rfl, rfl⟩
    refine b_if_eq C 34 16 dX0_absent_13 (by decide) rfl (fun c_13 => ?_) (fun c_13 => ?_)
    · refine j_iconst (v := -1) C dX0_absent_34 (by decide) 35 rfl ?_
      exact j_iret C hQ (by rw [if_neg (fun q => by rw [c_13] at q; exact absurd q.2.1 (by decide))]; exact ⟨rfl, rfl⟩) (by omega) (by omega) dX0_absent_35
    · obtain ⟨lg, m, hlg, hmm, rfl, rfl⟩ := (gl_gic_iff H.2.1 (fun k hk => (H.2.2 k hk).2.1)).mp c_13
      have hl6 := H.2.1
      have hL := hG.hs.lg lg (by omega)
      obtain ⟨hn9, hn4, hw10, hw1, hsn⟩ := H.2.2 lg hlg
      have hcl : (nI lg).toNatClampNeg = lg := nI_clamp (by omega)
      have hcm : (nI m).toNatClampNeg = m := nI_clamp (by omega)
      obtain ⟨s, hs, rfl⟩ := (gl_in_iff (by decide)).mp c_4
      have hcs : (nI s).toNatClampNeg = s := nI_clamp (by omega)
      refine j_aload_n C dX0_absent_16 rfl 17 rfl ?_
      refine gf_X0_12 C hG.o hG.r0 dX0_absent_17 20 rfl ?_
      refine gf_X0_65 C hG.hs.o hG.hs.r0 dX0_absent_20 23 rfl ?_
      refine j_iload_n C dX0_absent_23 rfl 24 rfl ?_
      refine j_aald C (by decide) hG.hs.k1 (by omega) (by decide) dX0_absent_24 25 rfl ?_
      rw [hG.hs.lr lg (by omega)]
      change gl_J _ _ _ _ _ _ (Value.ref _ :: _)
      refine j_iload_n C dX0_absent_25 rfl 26 rfl ?_
      refine j_iload C dX0_absent_26 rfl 28 rfl ?_
      refine j_ci C (cs_X0_117 C (ct_X2_latest (lo := (1 + 7 + 19 * lg)) (wn := wn lg) (n := m) (sn := sn lg) (h - 1) (by omega) hL hw10 hw1 (fun w hw => (hsn w hw).1) (fun w hw => (hsn w hw).2) (by omega)) hL.o rfl (by omega) (by omega) (by omega) rfl (Nat.le_of_ble_eq_true rfl) dX0_absent_28) 31 rfl ?_
      rintro _ _ ⟨rfl, rfl⟩
      refine j_if_lt C 36 34 dX0_absent_31 (by decide) rfl (fun c_31 => ?_) (fun c_31 => ?_)
      · have hG1 : gl_GL (N + 1, (va_up sh N (22, 0))) (va_up R N (fun _ => none)) := hG.new hN
        have hL1 : gl_LL (N + 1, (va_up sh N (22, 0))) (va_up R N (fun _ => none)) (1 + 7 + 19 * lg) := hL.of_eq (fun c q1 q2 => gl_up_ne (by omega)) (fun c j q1 q2 => by rw [gl_up_ne (by omega)])
        have hG2 : gl_GL (N + 1 + 1, (va_up (va_up sh N (22, 0)) (N + 1) (0, 8))) (va_up (va_up R N (fun _ => none)) (N + 1) (fun _ => none)) := hG1.new (by omega)
        refine nw_X0_257 C (by omega) (by omega) dX0_absent_36 39 rfl ?_
        refine j_dup C dX0_absent_39 rfl 40 rfl ?_
        refine j_cv C (cs_X0_259 C (ct_X15_new (h - 1) (by omega)) rfl (by omega) (by omega) (by omega) rfl (Nat.le_of_ble_eq_true rfl) dX0_absent_40) 43 rfl ?_
        rintro _ rfl
        refine j_astore C dX0_absent_43 (Nat.le_of_ble_eq_true rfl) (by rw [hnL]; decide) rfl 45 rfl ?_
        refine j_aload_n C dX0_absent_45 rfl 46 rfl ?_
        refine gf_X0_35 C hG1.o hG1.r3 dX0_absent_46 49 rfl ?_
        refine j_aload_n C dX0_absent_49 rfl 50 rfl ?_
        refine gf_X0_12 C hG1.o hG1.r0 dX0_absent_50 53 rfl ?_
        refine gf_X0_65 C hG1.hs.o hG1.hs.r0 dX0_absent_53 56 rfl ?_
        refine j_iload_n C dX0_absent_56 rfl 57 rfl ?_
        refine j_aald C (by decide) hG1.hs.k1 (by omega) (by decide) dX0_absent_57 58 rfl ?_
        rw [hG1.hs.lr lg (by omega)]
        change gl_J _ _ _ _ _ _ (Value.ref _ :: _)
        refine j_iload_n C dX0_absent_58 rfl 59 rfl ?_
        refine j_cv C (cs_X0_106 C (ct_X8_of (I := (va_up I N (fun _ => 0))) (lo := (1 + 7 + 19 * lg)) (n := m) (wn := wn lg) (sn := sn lg) (h - 1) (by omega) hG1 hL1 (by omega) (by omega) (by rw [gl_up_ne (by omega)]; exact hw10) hw1 (fun w hw => by rw [gl_up_ne (by omega)]; exact (hsn w hw).1) (fun w hw => (hsn w hw).2)) hG1.m0 rfl (by omega) (by omega) (by omega) rfl (Nat.le_of_ble_eq_true rfl) dX0_absent_59) 62 rfl ?_
        rintro _ ⟨I3, mp, rfl, hf3, hm3, hs3, hl3, hq3⟩
        rw [gl_up_ne (show (1 + 7 + 19 * lg) + 1 ≠ N by omega), gl_up_ne (show (1 + 7 + 19 * lg) + 2 ≠ N by omega), gl_up_ne (show (1 + 7 + 19 * lg) + 7 ≠ N by omega)] at hq3
        have hmq : gl_mq (I ((1 + 7 + 19 * lg) + 1)) (I ((1 + 7 + 19 * lg) + 2)) (sn lg) (B ((1 + 7 + 19 * lg) + 7)) (wn lg) m mp := ⟨hs3, hl3, hq3⟩
        have e3 : ∀ c, c < N → c < 690 ∨ 701 ≤ c → I3 c = I c := fun c q1 q2 => by rw [hf3 c (by omega), gl_up_ne (by omega)]
        refine j_aload_n C dX0_absent_62 rfl 63 rfl ?_
        refine gf_X0_35 C hG1.o hG1.r3 dX0_absent_63 66 rfl ?_
        refine j_iload C dX0_absent_66 rfl 68 rfl ?_
        refine j_aload_n C dX0_absent_68 rfl 69 rfl ?_
        refine gf_X0_46 C hG1.o hG1.r5 dX0_absent_69 72 rfl ?_
        refine j_cv C (cs_X0_240 C (ct_X8_down (N := N + 1) (I := I3) (m := mp) (ky := ky) (h - 1) (by omega) hG1 (by omega) hm3 (by omega) hs3) hG1.m0 rfl (by omega) (by omega) (by omega) rfl (Nat.le_of_ble_eq_true rfl) dX0_absent_72) 75 rfl ?_
        rintro _ ⟨I4, rfl, hF4, hm4, hrw4, h7, h8⟩
        have e4 : ∀ c, c < N → c < 690 ∨ 707 ≤ c → I4 c = I c := fun c q1 q2 => by rw [hF4 c (by omega) (by omega) (by omega) (by omega) (by omega) (by omega)]; exact e3 c q1 (by omega)
        have hlen := gl_dn_len (lf := fun q => gl_leaf (q : Int32 × Nat).1 (nI q.2)) (bt := fun d q => gl_bit (gl_way (q : Int32 × Nat).1) d) (kb := fun d => gl_bit (gl_way ky) d) 256 0 mp
        have hlen : (gl_mdn mp ky).1.length ≤ 256 := hlen
        refine j_aload C dX0_absent_75 rfl 77 rfl ?_
        refine j_iload C dX0_absent_77 rfl 79 rfl ?_
        refine pf_X0_260 C (x := 0) (by show (va_up (va_up sh N (22, 0)) (N + 1) (0, 8)) N = _; rw [gl_up_ne (by omega), gl_up_eq]) dX0_absent_79 82 rfl ?_
        rcases h8 with ⟨z1, z2⟩ | ⟨q0, i, z1, z0, z3, z4⟩
        · skip
          refine j_aload C dX0_absent_82 rfl 84 rfl ?_
          refine j_aload_n C dX0_absent_84 rfl 85 rfl ?_
          refine gf_X0_35 C hG2.o hG2.r3 dX0_absent_85 88 rfl ?_
          refine gf_X0_249 C hG2.m0 dX0_absent_88 91 rfl ?_
          rw [show (gl_u2 I4 N 5 ky) 695 8 = -1 by rw [gl_u2_ne (show 695 ≠ N by omega)]; exact z2]
          refine j_if_ge C 98 94 dX0_absent_91 (by decide) rfl (fun c_91 => ?_) (fun c_91 => ?_)
          · exact absurd c_91 (by decide)
          · refine j_iconst (v := nI 0) C dX0_absent_94 (by decide) 95 rfl ?_
            refine j_goto (tgt := 113) C dX0_absent_95 (by decide) ?_
            refine pf_X0_262 C (x := 0) (by show (va_up (va_up sh N (22, 0)) (N + 1) (0, 8)) N = _; rw [gl_up_ne (by omega), gl_up_eq]) dX0_absent_113 116 rfl ?_
            refine j_aload C dX0_absent_116 rfl 118 rfl ?_
            refine j_aload_n C dX0_absent_118 rfl 119 rfl ?_
            refine gf_X0_35 C hG2.o hG2.r3 dX0_absent_119 122 rfl ?_
            refine gf_X0_249 C hG2.m0 dX0_absent_122 125 rfl ?_
            rw [gl_u2_ne (show 695 ≠ N by omega), gl_u2_ne (show 695 ≠ N by omega), z2]
            refine j_if_ge C 132 128 dX0_absent_125 (by decide) rfl (fun c_125 => ?_) (fun c_125 => ?_)
            · exact absurd c_125 (by decide)
            · refine j_iconst (v := -1) C dX0_absent_128 (by decide) 129 rfl ?_
              refine j_goto (tgt := 147) C dX0_absent_129 (by decide) ?_
              refine pf_X0_265 C (x := 0) (by show (va_up (va_up sh N (22, 0)) (N + 1) (0, 8)) N = _; rw [gl_up_ne (by omega), gl_up_eq]) dX0_absent_147 150 rfl ?_
              refine j_aload_n C dX0_absent_150 rfl 151 rfl ?_
              refine j_iload_n C dX0_absent_151 rfl 152 rfl ?_
              refine j_aload C dX0_absent_152 rfl 154 rfl ?_
              refine j_iload_n C dX0_absent_154 rfl 155 rfl ?_
              refine j_iconst (v := nI 0) C dX0_absent_155 (by decide) 156 rfl ?_
              refine j_iconst (v := nI 0) C dX0_absent_156 (by decide) 157 rfl ?_
              refine j_aload_n C dX0_absent_157 rfl 158 rfl ?_
              refine gf_X0_35 C hG2.o hG2.r3 dX0_absent_158 161 rfl ?_
              refine gf_X0_254 C hG2.m0 dX0_absent_161 164 rfl ?_
              rw [gl_u2_ne (show 695 ≠ N by omega), gl_u2_ne (show 695 ≠ N by omega), gl_u2_ne (show 695 ≠ N by omega), h7]
              refine j_ci C (cs_X0_220 C (ct_X0_puts_14 (N := N + 1 + 1) (s := s) (p := N) (mn := (gl_mdn mp ky).1.length) (h - 1) (by omega) hG2 (by omega) hs (by rw [gl_up_ne (by omega), gl_up_eq]) (by omega) hN (by omega)) hG2.o rfl (by omega) (by omega) (by omega) rfl (Nat.le_of_ble_eq_true rfl) dX0_absent_164) 167 rfl ?_
              rintro _ _ ⟨rfl, q, hq, rfl⟩
              exact j_iret C hQ (by
                        rw [if_pos ⟨c_4, c_13, by rw [hcl, hcm]; exact c_31⟩, hcs, hcl, hcm]
                        refine ⟨mp, hmq, rfl, N + 1 + 1 + 1, _, _, _, _, _, rfl, by omega, fun c hc => ⟨by simp (disch := omega) only [gl_u2_eq, gl_u2_ne, gl_up_eq, gl_up_ne], by simp (disch := omega) only [gl_u2_eq, gl_u2_ne, gl_up_eq, gl_up_ne], by simp (disch := omega) only [gl_u2_eq, gl_u2_ne, gl_up_eq, gl_up_ne], fun q1 => by simp (disch := omega) only [gl_u2_eq, gl_u2_ne, gl_up_eq, gl_up_ne], fun q1 => ?_⟩, N, N + 1 + 1, 0, 0, ⟨by omega, by omega, by omega, by omega, fun q_ => by omega⟩, by simp (disch := omega) only [gl_u2_eq, gl_u2_ne, gl_up_eq, gl_up_ne], ⟨by show va_up _ (N + 1 + 1) _ N = _; simp (disch := omega) only [gl_u2_eq, gl_u2_ne, gl_up_eq, gl_up_ne], by simp (disch := omega) only [gl_u2_eq, gl_u2_ne, gl_up_eq, gl_up_ne], by show va_up _ (N + 1 + 1) _ (N + 1 + 1) = _; simp (disch := omega) only [gl_u2_eq, gl_u2_ne, gl_up_eq, gl_up_ne], fun j hj => ?_, fun _ _ => rfl, fun q_ => by omega⟩, fun i hi j hj => ?_⟩
                        · simp (disch := omega) only [gl_u2_eq, gl_u2_ne, gl_up_eq, gl_up_ne]
                          exact e4 c hc q1
                        · have hj4 : j = 0 ∨ j = 1 ∨ j = 2 ∨ j = 3 ∨ j = 5 ∨ j = 6 ∨ j = 7 := by unfold gl_fj at hj; omega
                          rcases hj4 with rfl | rfl | rfl | rfl | rfl | rfl | rfl
                          · simp (disch := omega) only [gl_u2_eq, gl_u2_ne, gl_up_eq, gl_up_ne]; rfl
                          · simp (disch := omega) only [gl_u2_eq, gl_u2_ne, gl_up_eq, gl_up_ne]; rfl
                          · simp (disch := omega) only [gl_u2_eq, gl_u2_ne, gl_up_eq, gl_up_ne]; rfl
                          · simp (disch := omega) only [gl_u2_eq, gl_u2_ne, gl_up_eq, gl_up_ne]; rfl
                          · simp (disch := omega) only [gl_u2_eq, gl_u2_ne, gl_up_eq, gl_up_ne]; rfl
                          · simp (disch := omega) only [gl_u2_eq, gl_u2_ne, gl_up_eq, gl_up_ne]; rw [z1]; rfl
                          · simp (disch := omega) only [gl_u2_eq, gl_u2_ne, gl_up_eq, gl_up_ne]; rw [z1]; rfl
                        · rw [gl_up_eq, hq _ (by omega), gl_u2_ne (show 705 ≠ N by omega), gl_u2_ne (show 705 ≠ N by omega), gl_u2_ne (show 705 ≠ N by omega), hrw4]
                          have := gl_wrs_at (base := 0) (gl_mdn mp ky).1 0 (I3 705) i hi j hj
                          rw [show 0 + 8 * (0 + i) + j = i * 8 + j by omega] at this
                          exact this) (by omega) (by omega) dX0_absent_167
        · skip
          refine j_aload C dX0_absent_82 rfl 84 rfl ?_
          refine j_aload_n C dX0_absent_84 rfl 85 rfl ?_
          refine gf_X0_35 C hG2.o hG2.r3 dX0_absent_85 88 rfl ?_
          refine gf_X0_249 C hG2.m0 dX0_absent_88 91 rfl ?_
          rw [gl_u2_ne (show 695 ≠ N by omega), z3]
          refine n_if_ge C 98 dX0_absent_91 (by decide) (by omega) ?_
          refine j_aload_n C dX0_absent_98 rfl 99 rfl ?_
          refine gf_X0_35 C hG2.o hG2.r3 dX0_absent_99 102 rfl ?_
          refine gf_X0_261 C hG2.m0 hG2.mr1 dX0_absent_102 105 rfl ?_
          refine j_aload_n C dX0_absent_105 rfl 106 rfl ?_
          refine gf_X0_35 C hG2.o hG2.r3 dX0_absent_106 109 rfl ?_
          refine gf_X0_249 C hG2.m0 dX0_absent_109 112 rfl ?_
          rw [gl_u2_ne (show 695 ≠ N by omega), z3]
          refine j_iald C hG2.m1 (by omega) (by decide) dX0_absent_112 113 rfl ?_
          rw [gl_u2_ne (show 696 ≠ N by omega), (hm4.2 i z0).1, z4]
          refine pf_X0_262 C (x := 0) (by show (va_up (va_up sh N (22, 0)) (N + 1) (0, 8)) N = _; rw [gl_up_ne (by omega), gl_up_eq]) dX0_absent_113 116 rfl ?_
          refine j_aload C dX0_absent_116 rfl 118 rfl ?_
          refine j_aload_n C dX0_absent_118 rfl 119 rfl ?_
          refine gf_X0_35 C hG2.o hG2.r3 dX0_absent_119 122 rfl ?_
          refine gf_X0_249 C hG2.m0 dX0_absent_122 125 rfl ?_
          rw [gl_u2_ne (show 695 ≠ N by omega), gl_u2_ne (show 695 ≠ N by omega), z3]
          refine n_if_ge C 132 dX0_absent_125 (by decide) (by omega) ?_
          refine j_aload_n C dX0_absent_132 rfl 133 rfl ?_
          refine gf_X0_35 C hG2.o hG2.r3 dX0_absent_133 136 rfl ?_
          refine gf_X0_247 C hG2.m0 hG2.mr2 dX0_absent_136 139 rfl ?_
          refine j_aload_n C dX0_absent_139 rfl 140 rfl ?_
          refine gf_X0_35 C hG2.o hG2.r3 dX0_absent_140 143 rfl ?_
          refine gf_X0_249 C hG2.m0 dX0_absent_143 146 rfl ?_
          rw [gl_u2_ne (show 695 ≠ N by omega), gl_u2_ne (show 695 ≠ N by omega), z3]
          refine j_iald C hG2.m2 (by omega) (by decide) dX0_absent_146 147 rfl ?_
          rw [gl_u2_ne (show 697 ≠ N by omega), gl_u2_ne (show 697 ≠ N by omega), (hm4.2 i z0).2.1, z4]
          refine pf_X0_265 C (x := 0) (by show (va_up (va_up sh N (22, 0)) (N + 1) (0, 8)) N = _; rw [gl_up_ne (by omega), gl_up_eq]) dX0_absent_147 150 rfl ?_
          refine j_aload_n C dX0_absent_150 rfl 151 rfl ?_
          refine j_iload_n C dX0_absent_151 rfl 152 rfl ?_
          refine j_aload C dX0_absent_152 rfl 154 rfl ?_
          refine j_iload_n C dX0_absent_154 rfl 155 rfl ?_
          refine j_iconst (v := nI 0) C dX0_absent_155 (by decide) 156 rfl ?_
          refine j_iconst (v := nI 0) C dX0_absent_156 (by decide) 157 rfl ?_
          refine j_aload_n C dX0_absent_157 rfl 158 rfl ?_
          refine gf_X0_35 C hG2.o hG2.r3 dX0_absent_158 161 rfl ?_
          refine gf_X0_254 C hG2.m0 dX0_absent_161 164 rfl ?_
          rw [gl_u2_ne (show 695 ≠ N by omega), gl_u2_ne (show 695 ≠ N by omega), gl_u2_ne (show 695 ≠ N by omega), h7]
          refine j_ci C (cs_X0_220 C (ct_X0_puts_14 (N := N + 1 + 1) (s := s) (p := N) (mn := (gl_mdn mp ky).1.length) (h - 1) (by omega) hG2 (by omega) hs (by rw [gl_up_ne (by omega), gl_up_eq]) (by omega) hN (by omega)) hG2.o rfl (by omega) (by omega) (by omega) rfl (Nat.le_of_ble_eq_true rfl) dX0_absent_164) 167 rfl ?_
          rintro _ _ ⟨rfl, q, hq, rfl⟩
          exact j_iret C hQ (by
                    rw [if_pos ⟨c_4, c_13, by rw [hcl, hcm]; exact c_31⟩, hcs, hcl, hcm]
                    refine ⟨mp, hmq, rfl, N + 1 + 1 + 1, _, _, _, _, _, rfl, by omega, fun c hc => ⟨by simp (disch := omega) only [gl_u2_eq, gl_u2_ne, gl_up_eq, gl_up_ne], by simp (disch := omega) only [gl_u2_eq, gl_u2_ne, gl_up_eq, gl_up_ne], by simp (disch := omega) only [gl_u2_eq, gl_u2_ne, gl_up_eq, gl_up_ne], fun q1 => by simp (disch := omega) only [gl_u2_eq, gl_u2_ne, gl_up_eq, gl_up_ne], fun q1 => ?_⟩, N, N + 1 + 1, 0, 0, ⟨by omega, by omega, by omega, by omega, fun q_ => by omega⟩, by simp (disch := omega) only [gl_u2_eq, gl_u2_ne, gl_up_eq, gl_up_ne], ⟨by show va_up _ (N + 1 + 1) _ N = _; simp (disch := omega) only [gl_u2_eq, gl_u2_ne, gl_up_eq, gl_up_ne], by simp (disch := omega) only [gl_u2_eq, gl_u2_ne, gl_up_eq, gl_up_ne], by show va_up _ (N + 1 + 1) _ (N + 1 + 1) = _; simp (disch := omega) only [gl_u2_eq, gl_u2_ne, gl_up_eq, gl_up_ne], fun j hj => ?_, fun _ _ => rfl, fun q_ => by omega⟩, fun i hi j hj => ?_⟩
                    · simp (disch := omega) only [gl_u2_eq, gl_u2_ne, gl_up_eq, gl_up_ne]
                      exact e4 c hc q1
                    · have hj4 : j = 0 ∨ j = 1 ∨ j = 2 ∨ j = 3 ∨ j = 5 ∨ j = 6 ∨ j = 7 := by unfold gl_fj at hj; omega
                      rcases hj4 with rfl | rfl | rfl | rfl | rfl | rfl | rfl
                      · simp (disch := omega) only [gl_u2_eq, gl_u2_ne, gl_up_eq, gl_up_ne]; rfl
                      · simp (disch := omega) only [gl_u2_eq, gl_u2_ne, gl_up_eq, gl_up_ne]; rfl
                      · simp (disch := omega) only [gl_u2_eq, gl_u2_ne, gl_up_eq, gl_up_ne]; rfl
                      · simp (disch := omega) only [gl_u2_eq, gl_u2_ne, gl_up_eq, gl_up_ne]; rfl
                      · simp (disch := omega) only [gl_u2_eq, gl_u2_ne, gl_up_eq, gl_up_ne]; rfl
                      · simp (disch := omega) only [gl_u2_eq, gl_u2_ne, gl_up_eq, gl_up_ne]; rw [z1]; rfl
                      · simp (disch := omega) only [gl_u2_eq, gl_u2_ne, gl_up_eq, gl_up_ne]; rw [z1]; rfl
                    · rw [gl_up_eq, hq _ (by omega), gl_u2_ne (show 705 ≠ N by omega), gl_u2_ne (show 705 ≠ N by omega), gl_u2_ne (show 705 ≠ N by omega), hrw4]
                      have := gl_wrs_at (base := 0) (gl_mdn mp ky).1 0 (I3 705) i hi j hj
                      rw [show 0 + 8 * (0 + i) + j = i * 8 + j by omega] at this
                      exact this) (by omega) (by omega) dX0_absent_167
      · refine j_iconst (v := -1) C dX0_absent_34 (by decide) 35 rfl ?_
        exact j_iret C hQ (by rw [if_neg (fun q => by have z := q.2.2; rw [hcl, hcm] at z; exact c_31 z)]; exact ⟨rfl, rfl⟩) (by omega) (by omega) dX0_absent_35
