/-! MODULE GlassLog, proofs shown: spans, within, span, grown (by gen86.py) -/
set_option maxRecDepth 100000
def gl_v8 (x0 x1 x2 x3 x5 x6 x7 : Int32) : Nat → Int32 := fun j => if j = 0 then x0 else if j = 1 then x1 else if j = 2 then x2 else if j = 3 then x3 else if j = 5 then x5 else if j = 6 then x6 else x7
theorem gl_rws_ln {K : Nat → Int32} {V : Nat → Int64} {a b : Nat} : (gl_rws K V a b).length = (gl_bls b (b - a) a).length := List.length_map ..
theorem gl_wrs_2 {r1 r2 : List (Nat → Int32)} {t : Nat → Int32} {i : Nat} (hi : i < (r1 ++ r2).length) {j : Nat} (hj : j < 8) : gl_wrs 0 r2 (0 + r1.length) (gl_wrs 0 r1 0 t) (i * 8 + j) = (r1 ++ r2)[i] j := by
  rw [← gl_wrs_app]
  have := gl_wrs_at (base := 0) (r1 ++ r2) 0 t i hi j hj
  rw [show 0 + 8 * (0 + i) + j = i * 8 + j by omega] at this
  exact this
set_option maxHeartbeats 4000000 in
set_option maxRecDepth 100000 in
theorem ct_X0_spans_10 {l : Launch} {δ : gl_Del} {N : Nat} {sh : Nat → Nat × Nat} {I : Nat → Nat → Int32} {L : Nat → Nat → Int64} {B : Nat → Nat → Bool} {R : Nat → Nat → Option Nat} {K : Nat → Int32} {V : Nat → Int64} {s p lo nl n a b : Nat} {x2 : Int32} (h : Nat) (hh : 4 ≤ h) (hG : gl_GL (N, sh) R) (hN : 707 ≤ N) (hs : s < 16) (hk : sh p = (18, 0)) (hpN : p < N) (hp7 : 707 ≤ p) (hL : gl_LL (N, sh) R lo) (hlo : lo + 19 ≤ 690) (hsm : gl_sm I lo K V nl) (hnl : n ≤ nl) (hn4 : nl ≤ 400) (hab : a ≤ b) (hbn : b ≤ n) : gl_Ct l δ yX0_spans (ws_ yX0_spans cX0_spans 8 ((some FieldType.int))) (gl_rm h 3 ((b - a) + (b - a) + ((gl_bls a (a - 0) 0).length + (gl_bls n (n - b) b).length) * 8)) 3 ((b - a) + (b - a) + ((gl_bls a (a - 0) 0).length + (gl_bls n (n - b) b).length) * 8) [.ref 0, .int (nI s), .ref p, .ref lo, .int (nI n), .int (nI a), .int (nI b), .int x2] ((N, sh), I, L, B, R) (gl_Qi fun r S => r = nI (gl_rws K V 0 a ++ gl_rws K V b n).length ∧ ∃ sh' I' L' B' R', S = ((N + 3, sh'), I', L', B', R') ∧ (∀ c, c < N → sh' c = sh c ∧ L' c = L c ∧ B' c = B c ∧ (c ≠ p → c ≠ 1 + 121 + s → R' c = R c) ∧ (c ≠ p → c ≠ 705 → I' c = I c)) ∧ R' (1 + 121 + s) 0 = some p ∧ gl_pf (N + 3, sh') I' L' R' p (N + 2) N (N + 1) 10 (gl_v8 (nI n) (nI a) x2 (nI (gl_rws K V 0 a ++ gl_rws K V b n).length) 0 0 0) ((gl_rws K V 0 a ++ gl_rws K V b n).length * 8) (I' (N + 2)) (b - a) (fun i => I (lo + 1) (a + i)) (fun i => L (lo + 4) (a + i)) ∧ ∀ i (h : i < (gl_rws K V 0 a ++ gl_rws K V b n).length), ∀ j, j < 8 → I' (N + 2) (i * 8 + j) = (gl_rws K V 0 a ++ gl_rws K V b n)[i] j) := by
  refine gl_of (by decide) (Nat.le_of_ble_eq_true rfl) rfl ?_
  intro κ C hQ hlκ hδκ hnL hini
  change gl_Cx κ RX0 _ _ _ at C
  have hc1 := gl_bls_len (b := a) (n := a - 0) (a := 0) (by omega) (Nat.zero_le _)
  have hc2 := gl_bls_len (b := n) (n := n - b) (a := b) (by omega) hbn
  have hlr : 0 + (gl_bls a (a - 0) 0).length + (gl_bls n (n - b) b).length = (gl_rws K V 0 a ++ gl_rws K V b n).length := by rw [List.length_append, gl_rws_ln, gl_rws_ln, Nat.zero_add]
  have hG2 : gl_GL (N + 1 + 1, (va_up (va_up sh N (0, (b - a))) (N + 1) (2, (b - a)))) (gl_u2 (va_up (gl_u2 (va_up R N (fun _ => none)) p 5 (some N)) (N + 1) (fun _ => none)) p 6 (some (N + 1))) := hG.of_eq (fun c hc => by show (va_up (va_up sh N (0, (b - a))) (N + 1) (2, (b - a))) c = sh c; simp (disch := omega) only [gl_u2_eq, gl_u2_ne, gl_up_eq, gl_up_ne]) (fun c j hc _ _ => by simp (disch := omega) only [gl_u2_eq, gl_u2_ne, gl_up_eq, gl_up_ne])
  have hL2 : gl_LL (N + 1 + 1, (va_up (va_up sh N (0, (b - a))) (N + 1) (2, (b - a)))) (gl_u2 (va_up (gl_u2 (va_up R N (fun _ => none)) p 5 (some N)) (N + 1) (fun _ => none)) p 6 (some (N + 1))) lo := hL.of_eq (fun c q1 q2 => by show (va_up (va_up sh N (0, (b - a))) (N + 1) (2, (b - a))) c = sh c; simp (disch := omega) only [gl_u2_eq, gl_u2_ne, gl_up_eq, gl_up_ne]) (fun c j q1 q2 => by simp (disch := omega) only [gl_u2_eq, gl_u2_ne, gl_up_eq, gl_up_ne])
  refine j_aload_n C dX0_spans_0 rfl 1 rfl ?_
  refine j_iload C dX0_spans_1 rfl 3 rfl ?_
  refine j_iload C dX0_spans_3 rfl 5 rfl ?_
  refine n_isub C dX0_spans_5 (by omega) 6 rfl ?_
  refine j_newarrI C (by omega) (by omega) (by omega) dX0_spans_6 8 rfl ?_
  refine pf_X0_205_10 C (x := 0) (by show va_up sh N _ p = _; rw [gl_up_ne (by omega)]; exact hk) dX0_spans_8 11 rfl ?_
  refine j_aload_n C dX0_spans_11 rfl 12 rfl ?_
  refine j_iload C dX0_spans_12 rfl 14 rfl ?_
  refine j_iload C dX0_spans_14 rfl 16 rfl ?_
  refine n_isub C dX0_spans_16 (by omega) 17 rfl ?_
  refine j_newarrJ C (by omega) (by omega) (by omega) dX0_spans_17 19 rfl ?_
  refine pf_X0_210_10 C (x := 0) (by show va_up (va_up sh N _) (N + 1) _ p = _; rw [gl_up_ne (by omega), gl_up_ne (by omega)]; exact hk) dX0_spans_19 22 rfl ?_
  refine j_aload_n C dX0_spans_22 rfl 23 rfl ?_
  refine gf_X0_214 C (x := 0) hL2.o hL2.r0 dX0_spans_23 26 rfl ?_
  refine j_iload C dX0_spans_26 rfl 28 rfl ?_
  refine j_aload_n C dX0_spans_28 rfl 29 rfl ?_
  refine gf_X0_205_10 C (x := 0) (by show va_up (va_up sh N _) (N + 1) _ p = _; rw [gl_up_ne (by omega), gl_up_ne (by omega)]; exact hk) (c' := N) (by simp (disch := omega) only [gl_u2_eq, gl_u2_ne, gl_up_eq, gl_up_ne]) dX0_spans_29 32 rfl ?_
  refine j_iconst (v := nI 0) C dX0_spans_32 (by decide) 33 rfl ?_
  refine j_iload C dX0_spans_33 rfl 35 rfl ?_
  refine j_iload C dX0_spans_35 rfl 37 rfl ?_
  refine n_isub C dX0_spans_37 (by omega) 38 rfl ?_
  refine j_copyI C q644 hL2.k1 (show (va_up (va_up sh N (0, (b - a))) (N + 1) (2, (b - a))) N = (0, (b - a)) by simp (disch := omega) only [gl_u2_eq, gl_u2_ne, gl_up_eq, gl_up_ne]) (by omega) (by omega) (by decide) (by omega) (by omega) (Nat.le_of_ble_eq_true rfl) dX0_spans_38 41 rfl ?_
  refine j_aload_n C dX0_spans_41 rfl 42 rfl ?_
  refine gf_X0_215 C (x := 0) hL2.o hL2.r3 dX0_spans_42 45 rfl ?_
  refine j_iload C dX0_spans_45 rfl 47 rfl ?_
  refine j_aload_n C dX0_spans_47 rfl 48 rfl ?_
  refine gf_X0_210_10 C (x := 0) (by show va_up (va_up sh N _) (N + 1) _ p = _; rw [gl_up_ne (by omega), gl_up_ne (by omega)]; exact hk) (c' := N + 1) (by simp (disch := omega) only [gl_u2_eq, gl_u2_ne, gl_up_eq, gl_up_ne]) dX0_spans_48 51 rfl ?_
  refine j_iconst (v := nI 0) C dX0_spans_51 (by decide) 52 rfl ?_
  refine j_iload C dX0_spans_52 rfl 54 rfl ?_
  refine j_iload C dX0_spans_54 rfl 56 rfl ?_
  refine n_isub C dX0_spans_56 (by omega) 57 rfl ?_
  refine j_copyJ C q644 hL2.k4 (show (va_up (va_up sh N (0, (b - a))) (N + 1) (2, (b - a))) (N + 1) = (2, (b - a)) by simp (disch := omega) only [gl_u2_eq, gl_u2_ne, gl_up_eq, gl_up_ne]) (by omega) (by omega) (by decide) (by omega) (by omega) (Nat.le_of_ble_eq_true rfl) dX0_spans_57 60 rfl ?_
  refine j_aload_n C dX0_spans_60 rfl 61 rfl ?_
  refine j_iload_n C dX0_spans_61 rfl 62 rfl ?_
  refine j_aload_n C dX0_spans_62 rfl 63 rfl ?_
  refine j_iload C dX0_spans_63 rfl 65 rfl ?_
  refine j_iload C dX0_spans_65 rfl 67 rfl ?_
  refine j_iload C dX0_spans_67 rfl 69 rfl ?_
  refine j_aload_n C dX0_spans_69 rfl 70 rfl ?_
  refine j_aload_n C dX0_spans_70 rfl 71 rfl ?_
  refine j_iload C dX0_spans_71 rfl 73 rfl ?_
  refine j_iload C dX0_spans_73 rfl 75 rfl ?_
  refine j_aload_n C dX0_spans_75 rfl 76 rfl ?_
  refine j_aload_n C dX0_spans_76 rfl 77 rfl ?_
  refine j_iconst (v := nI 0) C dX0_spans_77 (by decide) 78 rfl ?_
  refine j_iload C dX0_spans_78 rfl 80 rfl ?_
  refine j_iconst (v := nI 0) C dX0_spans_80 (by decide) 81 rfl ?_
  refine j_ci C (cs_X0_216w C (ct_X0_writes (I := (va_up (va_up (va_up I N (fun _ => 0)) (N + 1) (fun _ => 0)) N (va_cpy ((va_up (va_up I N (fun _ => 0)) (N + 1) (fun _ => 0)) (lo + 1)) ((va_up (va_up I N (fun _ => 0)) (N + 1) (fun _ => 0)) N) a 0 (b - a)))) (K := K) (V := V) (lo := lo) (n := nl) (a := 0) (b := a) (fr := 0) (h - 1) (by omega) hG2 hL2 (by omega) (gl_sm_fr hsm (by omega) (fun r hr => by simp (disch := omega) only [gl_u2_eq, gl_u2_ne, gl_up_eq, gl_up_ne])) (by omega) hn4 (Nat.zero_le _) (by omega)) hG2.o rfl (by omega) (by omega) (by omega) rfl (Nat.le_of_ble_eq_true rfl) dX0_spans_81) 84 rfl ?_
  rintro _ _ ⟨rfl, I4, rfl, hF4, h4⟩
  refine j_ci C (cs_X0_216 C (ct_X0_writes (I := I4) (K := K) (V := V) (lo := lo) (n := nl) (a := b) (b := n) (fr := 0 + (gl_bls a (a - 0) 0).length) (h - 1) (by omega) hG2 hL2 (by omega) (gl_sm_fr hsm (by omega) (fun r hr => by rw [hF4 _ (by omega)]; simp (disch := omega) only [gl_u2_eq, gl_u2_ne, gl_up_eq, gl_up_ne])) hnl hn4 (by omega) (by omega)) hG2.o rfl (by omega) (by omega) (by omega) rfl (Nat.le_of_ble_eq_true rfl) dX0_spans_84) 87 rfl ?_
  rintro _ _ ⟨rfl, I5, rfl, hF5, h5⟩
  refine j_ci C (cs_X0_220 C (ct_X0_puts_10 (N := N + 1 + 1) (s := s) (p := p) (mn := 0 + (gl_bls a (a - 0) 0).length + (gl_bls n (n - b) b).length) (h - 1) (by omega) hG2 (by omega) hs (by simp (disch := omega) only [gl_u2_eq, gl_u2_ne, gl_up_eq, gl_up_ne]; exact hk) (by omega) hp7 (by omega)) hG2.o rfl (by omega) (by omega) (by omega) rfl (Nat.le_of_ble_eq_true rfl) dX0_spans_87) 90 rfl ?_
  rintro _ _ ⟨rfl, q, hq, rfl⟩
  refine j_iret C hQ ⟨hlr.symm ▸ rfl, _, _, _, _, _, rfl, fun c hc => ⟨by simp (disch := omega) only [gl_u2_eq, gl_u2_ne, gl_up_eq, gl_up_ne], by simp (disch := omega) only [gl_u2_eq, gl_u2_ne, gl_up_eq, gl_up_ne], by simp (disch := omega) only [gl_u2_eq, gl_u2_ne, gl_up_eq, gl_up_ne], fun q1 q2 => by simp (disch := omega) only [gl_u2_eq, gl_u2_ne, gl_up_eq, gl_up_ne], fun q1 q2 => ?_⟩, by simp (disch := omega) only [gl_u2_eq, gl_u2_ne, gl_up_eq, gl_up_ne], ⟨by show va_up _ (N + 1 + 1) _ p = _; simp (disch := omega) only [gl_u2_eq, gl_u2_ne, gl_up_eq, gl_up_ne]; exact hk, by simp (disch := omega) only [gl_u2_eq, gl_u2_ne, gl_up_eq, gl_up_ne], ?_, fun j hj => ?_, fun _ _ => rfl, fun _ => ⟨by simp (disch := omega) only [gl_u2_eq, gl_u2_ne, gl_up_eq, gl_up_ne], by simp (disch := omega) only [gl_u2_eq, gl_u2_ne, gl_up_eq, gl_up_ne], by show va_up _ (N + 1 + 1) _ N = _; simp (disch := omega) only [gl_u2_eq, gl_u2_ne, gl_up_eq, gl_up_ne], by show va_up _ (N + 1 + 1) _ (N + 1) = _; simp (disch := omega) only [gl_u2_eq, gl_u2_ne, gl_up_eq, gl_up_ne], by omega, fun i hi => ⟨?_, ?_⟩⟩⟩, fun i hi j hj => ?_⟩ (by omega) (by omega) dX0_spans_90
  · simp (disch := omega) only [gl_u2_eq, gl_u2_ne, gl_up_eq, gl_up_ne]
    rw [hF5 c q2, hF4 c q2]
    simp (disch := omega) only [gl_u2_eq, gl_u2_ne, gl_up_eq, gl_up_ne]
  · show va_up _ (N + 1 + 1) _ (N + 2) = _
    simp (disch := omega) only [gl_u2_eq, gl_u2_ne, gl_up_eq, gl_up_ne]
    rw [hlr]
  · have hj4 : j = 0 ∨ j = 1 ∨ j = 2 ∨ j = 3 := by unfold gl_fj at hj; omega
    rcases hj4 with rfl | rfl | rfl | rfl
    · simp (disch := omega) only [gl_u2_eq, gl_u2_ne, gl_up_eq, gl_up_ne]; rfl
    · simp (disch := omega) only [gl_u2_eq, gl_u2_ne, gl_up_eq, gl_up_ne]; rfl
    · simp (disch := omega) only [gl_u2_eq, gl_u2_ne, gl_up_eq, gl_up_ne]; rfl
    · simp (disch := omega) only [gl_u2_eq, gl_u2_ne, gl_up_eq, gl_up_ne]; rw [hlr]; rfl
  · simp (disch := omega) only [gl_u2_eq, gl_u2_ne, gl_up_eq, gl_up_ne]
    rw [hF5 N (by omega), hF4 N (by omega)]
    simp (disch := omega) only [gl_u2_eq, gl_u2_ne, gl_up_eq, gl_up_ne]
    rw [pk_cpy_in (by omega) (by omega)]; congr 1
  · simp (disch := omega) only [gl_u2_eq, gl_u2_ne, gl_up_eq, gl_up_ne]
    rw [pk_cpy_in (by omega) (by omega)]; congr 1
  · have hi2 : i < 0 + (gl_bls a (a - 0) 0).length + (gl_bls n (n - b) b).length := by rw [hlr]; exact hi
    have e1 : ∀ f : Nat → Int32, va_up (gl_u2 (gl_u2 (gl_u2 (gl_u2 I5 p 0 (nI n)) p 1 (nI a)) p 2 x2) p 3 (nI (0 + (gl_bls a (a - 0) 0).length + (gl_bls n (n - b) b).length))) (N + 1 + 1) f (N + 2) = f := fun f => gl_up_eq
    rw [e1, hq _ (by omega), h5, h4, ← gl_rws_ln (K := K) (V := V) (a := 0) (b := a)]
    exact gl_wrs_2 hi hj
set_option maxHeartbeats 4000000 in
set_option maxRecDepth 100000 in
theorem ct_X0_spans_11 {l : Launch} {δ : gl_Del} {N : Nat} {sh : Nat → Nat × Nat} {I : Nat → Nat → Int32} {L : Nat → Nat → Int64} {B : Nat → Nat → Bool} {R : Nat → Nat → Option Nat} {K : Nat → Int32} {V : Nat → Int64} {s p lo nl n a b : Nat} {x2 : Int32} (h : Nat) (hh : 4 ≤ h) (hG : gl_GL (N, sh) R) (hN : 707 ≤ N) (hs : s < 16) (hk : sh p = (19, 0)) (hpN : p < N) (hp7 : 707 ≤ p) (hL : gl_LL (N, sh) R lo) (hlo : lo + 19 ≤ 690) (hsm : gl_sm I lo K V nl) (hnl : n ≤ nl) (hn4 : nl ≤ 400) (hab : a ≤ b) (hbn : b ≤ n) : gl_Ct l δ yX0_spans (ws_ yX0_spans cX0_spans 8 ((some FieldType.int))) (gl_rm h 3 ((b - a) + (b - a) + ((gl_bls a (a - 0) 0).length + (gl_bls n (n - b) b).length) * 8)) 3 ((b - a) + (b - a) + ((gl_bls a (a - 0) 0).length + (gl_bls n (n - b) b).length) * 8) [.ref 0, .int (nI s), .ref p, .ref lo, .int (nI n), .int (nI a), .int (nI b), .int x2] ((N, sh), I, L, B, R) (gl_Qi fun r S => r = nI (gl_rws K V 0 a ++ gl_rws K V b n).length ∧ ∃ sh' I' L' B' R', S = ((N + 3, sh'), I', L', B', R') ∧ (∀ c, c < N → sh' c = sh c ∧ L' c = L c ∧ B' c = B c ∧ (c ≠ p → c ≠ 1 + 121 + s → R' c = R c) ∧ (c ≠ p → c ≠ 705 → I' c = I c)) ∧ R' (1 + 121 + s) 0 = some p ∧ gl_pf (N + 3, sh') I' L' R' p (N + 2) N (N + 1) 11 (gl_v8 (nI n) (nI a) x2 (nI (gl_rws K V 0 a ++ gl_rws K V b n).length) 0 0 0) ((gl_rws K V 0 a ++ gl_rws K V b n).length * 8) (I' (N + 2)) (b - a) (fun i => I (lo + 1) (a + i)) (fun i => L (lo + 4) (a + i)) ∧ ∀ i (h : i < (gl_rws K V 0 a ++ gl_rws K V b n).length), ∀ j, j < 8 → I' (N + 2) (i * 8 + j) = (gl_rws K V 0 a ++ gl_rws K V b n)[i] j) := by
  refine gl_of (by decide) (Nat.le_of_ble_eq_true rfl) rfl ?_
  intro κ C hQ hlκ hδκ hnL hini
  change gl_Cx κ RX0 _ _ _ at C
  have hc1 := gl_bls_len (b := a) (n := a - 0) (a := 0) (by omega) (Nat.zero_le _)
  have hc2 := gl_bls_len (b := n) (n := n - b) (a := b) (by omega) hbn
  have hlr : 0 + (gl_bls a (a - 0) 0).length + (gl_bls n (n - b) b).length = (gl_rws K V 0 a ++ gl_rws K V b n).length := by rw [List.length_append, gl_rws_ln, gl_rws_ln, Nat.zero_add]
  have hG2 : gl_GL (N + 1 + 1, (va_up (va_up sh N (0, (b - a))) (N + 1) (2, (b - a)))) (gl_u2 (va_up (gl_u2 (va_up R N (fun _ => none)) p 5 (some N)) (N + 1) (fun _ => none)) p 6 (some (N + 1))) := hG.of_eq (fun c hc => by show (va_up (va_up sh N (0, (b - a))) (N + 1) (2, (b - a))) c = sh c; simp (disch := omega) only [gl_u2_eq, gl_u2_ne, gl_up_eq, gl_up_ne]) (fun c j hc _ _ => by simp (disch := omega) only [gl_u2_eq, gl_u2_ne, gl_up_eq, gl_up_ne])
  have hL2 : gl_LL (N + 1 + 1, (va_up (va_up sh N (0, (b - a))) (N + 1) (2, (b - a)))) (gl_u2 (va_up (gl_u2 (va_up R N (fun _ => none)) p 5 (some N)) (N + 1) (fun _ => none)) p 6 (some (N + 1))) lo := hL.of_eq (fun c q1 q2 => by show (va_up (va_up sh N (0, (b - a))) (N + 1) (2, (b - a))) c = sh c; simp (disch := omega) only [gl_u2_eq, gl_u2_ne, gl_up_eq, gl_up_ne]) (fun c j q1 q2 => by simp (disch := omega) only [gl_u2_eq, gl_u2_ne, gl_up_eq, gl_up_ne])
  refine j_aload_n C dX0_spans_0 rfl 1 rfl ?_
  refine j_iload C dX0_spans_1 rfl 3 rfl ?_
  refine j_iload C dX0_spans_3 rfl 5 rfl ?_
  refine n_isub C dX0_spans_5 (by omega) 6 rfl ?_
  refine j_newarrI C (by omega) (by omega) (by omega) dX0_spans_6 8 rfl ?_
  refine pf_X0_205_11 C (x := 0) (by show va_up sh N _ p = _; rw [gl_up_ne (by omega)]; exact hk) dX0_spans_8 11 rfl ?_
  refine j_aload_n C dX0_spans_11 rfl 12 rfl ?_
  refine j_iload C dX0_spans_12 rfl 14 rfl ?_
  refine j_iload C dX0_spans_14 rfl 16 rfl ?_
  refine n_isub C dX0_spans_16 (by omega) 17 rfl ?_
  refine j_newarrJ C (by omega) (by omega) (by omega) dX0_spans_17 19 rfl ?_
  refine pf_X0_210_11 C (x := 0) (by show va_up (va_up sh N _) (N + 1) _ p = _; rw [gl_up_ne (by omega), gl_up_ne (by omega)]; exact hk) dX0_spans_19 22 rfl ?_
  refine j_aload_n C dX0_spans_22 rfl 23 rfl ?_
  refine gf_X0_214 C (x := 0) hL2.o hL2.r0 dX0_spans_23 26 rfl ?_
  refine j_iload C dX0_spans_26 rfl 28 rfl ?_
  refine j_aload_n C dX0_spans_28 rfl 29 rfl ?_
  refine gf_X0_205_11 C (x := 0) (by show va_up (va_up sh N _) (N + 1) _ p = _; rw [gl_up_ne (by omega), gl_up_ne (by omega)]; exact hk) (c' := N) (by simp (disch := omega) only [gl_u2_eq, gl_u2_ne, gl_up_eq, gl_up_ne]) dX0_spans_29 32 rfl ?_
  refine j_iconst (v := nI 0) C dX0_spans_32 (by decide) 33 rfl ?_
  refine j_iload C dX0_spans_33 rfl 35 rfl ?_
  refine j_iload C dX0_spans_35 rfl 37 rfl ?_
  refine n_isub C dX0_spans_37 (by omega) 38 rfl ?_
  refine j_copyI C q644 hL2.k1 (show (va_up (va_up sh N (0, (b - a))) (N + 1) (2, (b - a))) N = (0, (b - a)) by simp (disch := omega) only [gl_u2_eq, gl_u2_ne, gl_up_eq, gl_up_ne]) (by omega) (by omega) (by decide) (by omega) (by omega) (Nat.le_of_ble_eq_true rfl) dX0_spans_38 41 rfl ?_
  refine j_aload_n C dX0_spans_41 rfl 42 rfl ?_
  refine gf_X0_215 C (x := 0) hL2.o hL2.r3 dX0_spans_42 45 rfl ?_
  refine j_iload C dX0_spans_45 rfl 47 rfl ?_
  refine j_aload_n C dX0_spans_47 rfl 48 rfl ?_
  refine gf_X0_210_11 C (x := 0) (by show va_up (va_up sh N _) (N + 1) _ p = _; rw [gl_up_ne (by omega), gl_up_ne (by omega)]; exact hk) (c' := N + 1) (by simp (disch := omega) only [gl_u2_eq, gl_u2_ne, gl_up_eq, gl_up_ne]) dX0_spans_48 51 rfl ?_
  refine j_iconst (v := nI 0) C dX0_spans_51 (by decide) 52 rfl ?_
  refine j_iload C dX0_spans_52 rfl 54 rfl ?_
  refine j_iload C dX0_spans_54 rfl 56 rfl ?_
  refine n_isub C dX0_spans_56 (by omega) 57 rfl ?_
  refine j_copyJ C q644 hL2.k4 (show (va_up (va_up sh N (0, (b - a))) (N + 1) (2, (b - a))) (N + 1) = (2, (b - a)) by simp (disch := omega) only [gl_u2_eq, gl_u2_ne, gl_up_eq, gl_up_ne]) (by omega) (by omega) (by decide) (by omega) (by omega) (Nat.le_of_ble_eq_true rfl) dX0_spans_57 60 rfl ?_
  refine j_aload_n C dX0_spans_60 rfl 61 rfl ?_
  refine j_iload_n C dX0_spans_61 rfl 62 rfl ?_
  refine j_aload_n C dX0_spans_62 rfl 63 rfl ?_
  refine j_iload C dX0_spans_63 rfl 65 rfl ?_
  refine j_iload C dX0_spans_65 rfl 67 rfl ?_
  refine j_iload C dX0_spans_67 rfl 69 rfl ?_
  refine j_aload_n C dX0_spans_69 rfl 70 rfl ?_
  refine j_aload_n C dX0_spans_70 rfl 71 rfl ?_
  refine j_iload C dX0_spans_71 rfl 73 rfl ?_
  refine j_iload C dX0_spans_73 rfl 75 rfl ?_
  refine j_aload_n C dX0_spans_75 rfl 76 rfl ?_
  refine j_aload_n C dX0_spans_76 rfl 77 rfl ?_
  refine j_iconst (v := nI 0) C dX0_spans_77 (by decide) 78 rfl ?_
  refine j_iload C dX0_spans_78 rfl 80 rfl ?_
  refine j_iconst (v := nI 0) C dX0_spans_80 (by decide) 81 rfl ?_
  refine j_ci C (cs_X0_216w C (ct_X0_writes (I := (va_up (va_up (va_up I N (fun _ => 0)) (N + 1) (fun _ => 0)) N (va_cpy ((va_up (va_up I N (fun _ => 0)) (N + 1) (fun _ => 0)) (lo + 1)) ((va_up (va_up I N (fun _ => 0)) (N + 1) (fun _ => 0)) N) a 0 (b - a)))) (K := K) (V := V) (lo := lo) (n := nl) (a := 0) (b := a) (fr := 0) (h - 1) (by omega) hG2 hL2 (by omega) (gl_sm_fr hsm (by omega) (fun r hr => by simp (disch := omega) only [gl_u2_eq, gl_u2_ne, gl_up_eq, gl_up_ne])) (by omega) hn4 (Nat.zero_le _) (by omega)) hG2.o rfl (by omega) (by omega) (by omega) rfl (Nat.le_of_ble_eq_true rfl) dX0_spans_81) 84 rfl ?_
  rintro _ _ ⟨rfl, I4, rfl, hF4, h4⟩
  refine j_ci C (cs_X0_216 C (ct_X0_writes (I := I4) (K := K) (V := V) (lo := lo) (n := nl) (a := b) (b := n) (fr := 0 + (gl_bls a (a - 0) 0).length) (h - 1) (by omega) hG2 hL2 (by omega) (gl_sm_fr hsm (by omega) (fun r hr => by rw [hF4 _ (by omega)]; simp (disch := omega) only [gl_u2_eq, gl_u2_ne, gl_up_eq, gl_up_ne])) hnl hn4 (by omega) (by omega)) hG2.o rfl (by omega) (by omega) (by omega) rfl (Nat.le_of_ble_eq_true rfl) dX0_spans_84) 87 rfl ?_
  rintro _ _ ⟨rfl, I5, rfl, hF5, h5⟩
  refine j_ci C (cs_X0_220 C (ct_X0_puts_11 (N := N + 1 + 1) (s := s) (p := p) (mn := 0 + (gl_bls a (a - 0) 0).length + (gl_bls n (n - b) b).length) (h - 1) (by omega) hG2 (by omega) hs (by simp (disch := omega) only [gl_u2_eq, gl_u2_ne, gl_up_eq, gl_up_ne]; exact hk) (by omega) hp7 (by omega)) hG2.o rfl (by omega) (by omega) (by omega) rfl (Nat.le_of_ble_eq_true rfl) dX0_spans_87) 90 rfl ?_
  rintro _ _ ⟨rfl, q, hq, rfl⟩
  refine j_iret C hQ ⟨hlr.symm ▸ rfl, _, _, _, _, _, rfl, fun c hc => ⟨by simp (disch := omega) only [gl_u2_eq, gl_u2_ne, gl_up_eq, gl_up_ne], by simp (disch := omega) only [gl_u2_eq, gl_u2_ne, gl_up_eq, gl_up_ne], by simp (disch := omega) only [gl_u2_eq, gl_u2_ne, gl_up_eq, gl_up_ne], fun q1 q2 => by simp (disch := omega) only [gl_u2_eq, gl_u2_ne, gl_up_eq, gl_up_ne], fun q1 q2 => ?_⟩, by simp (disch := omega) only [gl_u2_eq, gl_u2_ne, gl_up_eq, gl_up_ne], ⟨by show va_up _ (N + 1 + 1) _ p = _; simp (disch := omega) only [gl_u2_eq, gl_u2_ne, gl_up_eq, gl_up_ne]; exact hk, by simp (disch := omega) only [gl_u2_eq, gl_u2_ne, gl_up_eq, gl_up_ne], ?_, fun j hj => ?_, fun _ _ => rfl, fun _ => ⟨by simp (disch := omega) only [gl_u2_eq, gl_u2_ne, gl_up_eq, gl_up_ne], by simp (disch := omega) only [gl_u2_eq, gl_u2_ne, gl_up_eq, gl_up_ne], by show va_up _ (N + 1 + 1) _ N = _; simp (disch := omega) only [gl_u2_eq, gl_u2_ne, gl_up_eq, gl_up_ne], by show va_up _ (N + 1 + 1) _ (N + 1) = _; simp (disch := omega) only [gl_u2_eq, gl_u2_ne, gl_up_eq, gl_up_ne], by omega, fun i hi => ⟨?_, ?_⟩⟩⟩, fun i hi j hj => ?_⟩ (by omega) (by omega) dX0_spans_90
  · simp (disch := omega) only [gl_u2_eq, gl_u2_ne, gl_up_eq, gl_up_ne]
    rw [hF5 c q2, hF4 c q2]
    simp (disch := omega) only [gl_u2_eq, gl_u2_ne, gl_up_eq, gl_up_ne]
  · show va_up _ (N + 1 + 1) _ (N + 2) = _
    simp (disch := omega) only [gl_u2_eq, gl_u2_ne, gl_up_eq, gl_up_ne]
    rw [hlr]
  · have hj4 : j = 0 ∨ j = 1 ∨ j = 2 ∨ j = 3 := by unfold gl_fj at hj; omega
    rcases hj4 with rfl | rfl | rfl | rfl
    · simp (disch := omega) only [gl_u2_eq, gl_u2_ne, gl_up_eq, gl_up_ne]; rfl
    · simp (disch := omega) only [gl_u2_eq, gl_u2_ne, gl_up_eq, gl_up_ne]; rfl
    · simp (disch := omega) only [gl_u2_eq, gl_u2_ne, gl_up_eq, gl_up_ne]; rfl
    · simp (disch := omega) only [gl_u2_eq, gl_u2_ne, gl_up_eq, gl_up_ne]; rw [hlr]; rfl
  · simp (disch := omega) only [gl_u2_eq, gl_u2_ne, gl_up_eq, gl_up_ne]
    rw [hF5 N (by omega), hF4 N (by omega)]
    simp (disch := omega) only [gl_u2_eq, gl_u2_ne, gl_up_eq, gl_up_ne]
    rw [pk_cpy_in (by omega) (by omega)]; congr 1
  · simp (disch := omega) only [gl_u2_eq, gl_u2_ne, gl_up_eq, gl_up_ne]
    rw [pk_cpy_in (by omega) (by omega)]; congr 1
  · have hi2 : i < 0 + (gl_bls a (a - 0) 0).length + (gl_bls n (n - b) b).length := by rw [hlr]; exact hi
    have e1 : ∀ f : Nat → Int32, va_up (gl_u2 (gl_u2 (gl_u2 (gl_u2 I5 p 0 (nI n)) p 1 (nI a)) p 2 x2) p 3 (nI (0 + (gl_bls a (a - 0) 0).length + (gl_bls n (n - b) b).length))) (N + 1 + 1) f (N + 2) = f := fun f => gl_up_eq
    rw [e1, hq _ (by omega), h5, h4, ← gl_rws_ln (K := K) (V := V) (a := 0) (b := a)]
    exact gl_wrs_2 hi hj
