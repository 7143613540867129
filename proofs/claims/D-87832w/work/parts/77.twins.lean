/-! MODULE GlassLog, proofs: constructors, twins (by gen77.py) -/
set_option maxRecDepth 100000
set_option maxHeartbeats 4000000 in
set_option maxRecDepth 100000 in
theorem ct_X10_new {l : Launch} {δ : gl_Del} {S : gl_Sto} {p : Nat} (h : Nat) (hh : 1 ≤ h)  : gl_Ct l δ yX10_init (ws_ yX10_init cX10_init 1 none) (gl_rm h 0 0) 0 0 [.ref p] S (gl_Qv fun S1 => S1 = S) := by
  refine gl_of (by decide) (Nat.le_of_ble_eq_true rfl) rfl ?_
  intro κ C hQ hlκ hδκ hnL hini
  change gl_Cx κ RX10 _ _ _ at C
  refine j_aload_n C dX10_init_0 rfl 1 rfl ?_
  refine j_objInit C q596 q91 q92 (by omega) (Nat.le_of_ble_eq_true rfl) dX10_init_1 4 rfl ?_
  exact j_ret C hQ rfl (by omega) (by omega) dX10_init_4
set_option maxHeartbeats 4000000 in
set_option maxRecDepth 100000 in
theorem ct_X11_new {l : Launch} {δ : gl_Del} {S : gl_Sto} {p : Nat} (h : Nat) (hh : 2 ≤ h)  : gl_Ct l δ yX11_init (ws_ yX11_init cX11_init 1 none) (gl_rm h 0 0) 0 0 [.ref p] S (gl_Qv fun S1 => S1 = S) := by
  refine gl_of (by decide) (Nat.le_of_ble_eq_true rfl) rfl ?_
  intro κ C hQ hlκ hδκ hnL hini
  change gl_Cx κ RX11 _ _ _ at C
  refine j_aload_n C dX11_init_0 rfl 1 rfl ?_
  refine j_cv C (cs_X11_3 C (ct_X10_new (h - 1) (by omega)) rfl (by omega) (by omega) (by omega) rfl (Nat.le_of_ble_eq_true rfl) dX11_init_1) 4 rfl ?_
  rintro _ rfl
  exact j_ret C hQ rfl (by omega) (by omega) dX11_init_4
set_option maxHeartbeats 4000000 in
set_option maxRecDepth 100000 in
theorem ct_X13_new {l : Launch} {δ : gl_Del} {S : gl_Sto} {p : Nat} (h : Nat) (hh : 2 ≤ h)  : gl_Ct l δ yX13_init (ws_ yX13_init cX13_init 1 none) (gl_rm h 0 0) 0 0 [.ref p] S (gl_Qv fun S1 => S1 = S) := by
  refine gl_of (by decide) (Nat.le_of_ble_eq_true rfl) rfl ?_
  intro κ C hQ hlκ hδκ hnL hini
  change gl_Cx κ RX13 _ _ _ at C
  refine j_aload_n C dX13_init_0 rfl 1 rfl ?_
  refine j_cv C (cs_X13_3 C (ct_X10_new (h - 1) (by omega)) rfl (by omega) (by omega) (by omega) rfl (Nat.le_of_ble_eq_true rfl) dX13_init_1) 4 rfl ?_
  rintro _ rfl
  exact j_ret C hQ rfl (by omega) (by omega) dX13_init_4
set_option maxHeartbeats 4000000 in
set_option maxRecDepth 100000 in
theorem ct_X14_new {l : Launch} {δ : gl_Del} {S : gl_Sto} {p : Nat} (h : Nat) (hh : 2 ≤ h)  : gl_Ct l δ yX14_init (ws_ yX14_init cX14_init 1 none) (gl_rm h 0 0) 0 0 [.ref p] S (gl_Qv fun S1 => S1 = S) := by
  refine gl_of (by decide) (Nat.le_of_ble_eq_true rfl) rfl ?_
  intro κ C hQ hlκ hδκ hnL hini
  change gl_Cx κ RX14 _ _ _ at C
  refine j_aload_n C dX14_init_0 rfl 1 rfl ?_
  refine j_cv C (cs_X14_3 C (ct_X10_new (h - 1) (by omega)) rfl (by omega) (by omega) (by omega) rfl (Nat.le_of_ble_eq_true rfl) dX14_init_1) 4 rfl ?_
  rintro _ rfl
  exact j_ret C hQ rfl (by omega) (by omega) dX14_init_4
set_option maxHeartbeats 4000000 in
set_option maxRecDepth 100000 in
theorem ct_X12_new {l : Launch} {δ : gl_Del} {S : gl_Sto} {p : Nat} (h : Nat) (hh : 3 ≤ h)  : gl_Ct l δ yX12_init (ws_ yX12_init cX12_init 1 none) (gl_rm h 0 0) 0 0 [.ref p] S (gl_Qv fun S1 => S1 = S) := by
  refine gl_of (by decide) (Nat.le_of_ble_eq_true rfl) rfl ?_
  intro κ C hQ hlκ hδκ hnL hini
  change gl_Cx κ RX12 _ _ _ at C
  refine j_aload_n C dX12_init_0 rfl 1 rfl ?_
  refine j_cv C (cs_X12_3 C (ct_X11_new (h - 1) (by omega)) rfl (by omega) (by omega) (by omega) rfl (Nat.le_of_ble_eq_true rfl) dX12_init_1) 4 rfl ?_
  rintro _ rfl
  exact j_ret C hQ rfl (by omega) (by omega) dX12_init_4
set_option maxHeartbeats 4000000 in
set_option maxRecDepth 100000 in
theorem ct_X15_new {l : Launch} {δ : gl_Del} {S : gl_Sto} {p : Nat} (h : Nat) (hh : 3 ≤ h)  : gl_Ct l δ yX15_init (ws_ yX15_init cX15_init 1 none) (gl_rm h 0 0) 0 0 [.ref p] S (gl_Qv fun S1 => S1 = S) := by
  refine gl_of (by decide) (Nat.le_of_ble_eq_true rfl) rfl ?_
  intro κ C hQ hlκ hδκ hnL hini
  change gl_Cx κ RX15 _ _ _ at C
  refine j_aload_n C dX15_init_0 rfl 1 rfl ?_
  refine j_cv C (cs_X15_3 C (ct_X14_new (h - 1) (by omega)) rfl (by omega) (by omega) (by omega) rfl (Nat.le_of_ble_eq_true rfl) dX15_init_1) 4 rfl ?_
  rintro _ rfl
  exact j_ret C hQ rfl (by omega) (by omega) dX15_init_4
set_option maxHeartbeats 4000000 in
set_option maxRecDepth 100000 in
theorem ct_X11_twin2_10 {l : Launch} {δ : gl_Del} {N : Nat} {sh : Nat → Nat × Nat} {I : Nat → Nat → Int32} {L : Nat → Nat → Int64} {B : Nat → Nat → Bool} {R : Nat → Nat → Option Nat} {p q st kl vl : Nat} {v : Nat → Int32} {n8 m : Nat} {stp ks : Nat → Int32} {vs : Nat → Int64} (h : Nat) (hh : 4 ≤ h) (hP : gl_pf (N, sh) I L R p st kl vl 10 v n8 stp m ks vs) (hkq : sh q = (18, 0)) (hpq : p ≠ q) (hqN : q < N) (hpN : p < N) (hsN : st < N) (hn8 : n8 < 2 ^ 24) (hkN : kl < N) (hvN : vl < N) (hsq : st ≠ q) (hklq : kl ≠ q) (hvlq : vl ≠ q) (hm : m < 2 ^ 24) : gl_Ct l δ yX11_twin_2 (ws_ yX11_twin_2 cX11_twin_2 2 ((some (FieldType.object "GlassLog$Proof")))) (gl_rm h 3 (m + m + n8)) 3 (m + m + n8) [.ref p, .ref q] ((N, sh), I, L, B, R) (gl_Qr fun o S => o = some q ∧ ∃ sh' I' L' B' R', S = ((N + 3, sh'), I', L', B', R') ∧ gl_tw q N (N + 3) sh sh' I I' L L' B B' R R' ∧ gl_pf (N + 3, sh') I' L' R' q (N + 2) N (N + 1) 10 v n8 stp m ks vs) := by
  refine gl_of (by decide) (Nat.le_of_ble_eq_true rfl) rfl ?_
  intro κ C hQ hlκ hδκ hnL hini
  change gl_Cx κ RX11 _ _ _ at C
  have h6 := hP.2.2.2.2.2 (Or.inl rfl)
  refine j_aload_n C dX11_twin_2_0 rfl 1 rfl ?_
  refine j_aload_n C dX11_twin_2_1 rfl 2 rfl ?_
  refine gf_X11_9_10 C hP.1 (c' := kl) h6.1 dX11_twin_2_2 5 rfl ?_
  refine j_aload_n C dX11_twin_2_5 rfl 6 rfl ?_
  refine gf_X11_9_10 C hP.1 (c' := kl) h6.1 dX11_twin_2_6 9 rfl ?_
  refine j_alen C (by decide) h6.2.2.1 dX11_twin_2_9 10 rfl ?_
  refine j_cr C (cs_X11_63 C (ct_J1_copyOfI (c := kl) (n := m) (len := m) (h - 1) (by omega) h6.2.2.1 hkN (Nat.le_refl _) hm) rfl (by omega) (by omega) (by omega) rfl (Nat.le_of_ble_eq_true rfl) dX11_twin_2_10) 13 rfl ?_
  rintro _ _ ⟨rfl, r1, hr1, rfl⟩
  refine pf_X11_9_10 C (x := 0) (by simp (disch := omega) only [gl_u2_eq, gl_u2_ne, gl_up_eq, gl_up_ne]; exact hkq) dX11_twin_2_13 16 rfl ?_
  refine j_aload_n C dX11_twin_2_16 rfl 17 rfl ?_
  refine j_aload_n C dX11_twin_2_17 rfl 18 rfl ?_
  refine gf_X11_34_10 C (x := 0) (by simp (disch := omega) only [gl_u2_eq, gl_u2_ne, gl_up_eq, gl_up_ne]; exact hP.1) (c' := vl) (by simp (disch := omega) only [gl_u2_eq, gl_u2_ne, gl_up_eq, gl_up_ne]; exact h6.2.1) dX11_twin_2_18 21 rfl ?_
  refine j_aload_n C dX11_twin_2_21 rfl 22 rfl ?_
  refine gf_X11_34_10 C (x := 0) (by simp (disch := omega) only [gl_u2_eq, gl_u2_ne, gl_up_eq, gl_up_ne]; exact hP.1) (c' := vl) (by simp (disch := omega) only [gl_u2_eq, gl_u2_ne, gl_up_eq, gl_up_ne]; exact h6.2.1) dX11_twin_2_22 25 rfl ?_
  refine j_alen C (by decide) (show va_up sh N (0, m) vl = (2, m) by rw [gl_up_ne (by omega)]; exact h6.2.2.2.1) dX11_twin_2_25 26 rfl ?_
  refine j_cr C (cs_X11_69 C (ct_J1_copyOfJ (c := vl) (n := m) (len := m) (h - 1) (by omega) (show va_up sh N (0, m) vl = (2, m) by rw [gl_up_ne (by omega)]; exact h6.2.2.2.1) (by omega) (Nat.le_refl _) hm) rfl (by omega) (by omega) (by omega) rfl (Nat.le_of_ble_eq_true rfl) dX11_twin_2_26) 29 rfl ?_
  rintro _ _ ⟨rfl, r2, hr2, rfl⟩
  refine pf_X11_34_10 C (x := 0) (by simp (disch := omega) only [gl_u2_eq, gl_u2_ne, gl_up_eq, gl_up_ne]; exact hkq) dX11_twin_2_29 32 rfl ?_
  refine j_aload_n C dX11_twin_2_32 rfl 33 rfl ?_
  refine j_aload_n C dX11_twin_2_33 rfl 34 rfl ?_
  refine j_cr C (cs_X11_72_10 C (ct_X10_become_10 (p := q) (q := p) (st := st) (n8 := n8) (h - 1) (by omega) (by simp (disch := omega) only [gl_u2_eq, gl_u2_ne, gl_up_eq, gl_up_ne]; exact hkq) (by simp (disch := omega) only [gl_u2_eq, gl_u2_ne, gl_up_eq, gl_up_ne]; exact hP.1) (Ne.symm hpq) (by omega) (by simp (disch := omega) only [gl_u2_eq, gl_u2_ne, gl_up_eq, gl_up_ne]; exact hP.2.1) (by simp (disch := omega) only [gl_u2_eq, gl_u2_ne, gl_up_eq, gl_up_ne]; exact hP.2.2.1) (by omega) hsq hn8) (xx := 0) (by simp (disch := omega) only [gl_u2_eq, gl_u2_ne, gl_up_eq, gl_up_ne]; exact hkq) rfl (by omega) (by omega) (by omega) rfl (Nat.le_of_ble_eq_true rfl) dX11_twin_2_34) 37 rfl ?_
  rintro _ _ ⟨rfl, r3, hr3, rfl⟩
  refine j_aret C (Or.inl ⟨_, rfl⟩) hQ ⟨rfl, _, _, _, _, _, rfl, ⟨by omega, fun c hc => ⟨by simp (disch := omega) only [gl_u2_eq, gl_u2_ne, gl_up_eq, gl_up_ne], by simp (disch := omega) only [gl_u2_eq, gl_u2_ne, gl_up_eq, gl_up_ne], by simp (disch := omega) only [gl_u2_eq, gl_u2_ne, gl_up_eq, gl_up_ne], fun hq => ⟨by simp (disch := omega) only [gl_u2_eq, gl_u2_ne, gl_up_eq, gl_up_ne], by simp (disch := omega) only [gl_u2_eq, gl_u2_ne, gl_up_eq, gl_up_ne]⟩⟩⟩, by show va_up _ (N + 1 + 1) _ q = _; simp (disch := omega) only [gl_u2_eq, gl_u2_ne, gl_up_eq, gl_up_ne]; exact hkq, by simp (disch := omega) only [gl_u2_eq, gl_u2_ne, gl_up_eq, gl_up_ne], by show va_up _ (N + 1 + 1) _ (N + 2) = _; simp (disch := omega) only [gl_u2_eq, gl_u2_ne, gl_up_eq, gl_up_ne], fun j hj => ?_, fun t ht => ?_, fun _ => ⟨by simp (disch := omega) only [gl_u2_eq, gl_u2_ne, gl_up_eq, gl_up_ne], by simp (disch := omega) only [gl_u2_eq, gl_u2_ne, gl_up_eq, gl_up_ne], by show va_up _ (N + 1 + 1) _ N = _; simp (disch := omega) only [gl_u2_eq, gl_u2_ne, gl_up_eq, gl_up_ne], by show va_up _ (N + 1 + 1) _ (N + 1) = _; simp (disch := omega) only [gl_u2_eq, gl_u2_ne, gl_up_eq, gl_up_ne], by omega, fun i hi => ⟨?_, ?_⟩⟩⟩ (by omega) (by omega) dX11_twin_2_37
  · have hj4 : j = 0 ∨ j = 1 ∨ j = 2 ∨ j = 3 := by unfold gl_fj at hj; omega
    rw [← hP.2.2.2.1 j hj]
    rcases hj4 with rfl | rfl | rfl | rfl <;> simp (disch := omega) only [gl_u2_eq, gl_u2_ne, gl_up_eq, gl_up_ne]
  · simp (disch := omega) only [gl_u2_eq, gl_u2_ne, gl_up_eq, gl_up_ne]
    rw [hr3 t ht]
    simp (disch := omega) only [gl_u2_eq, gl_u2_ne, gl_up_eq, gl_up_ne]
    exact hP.2.2.2.2.1 t ht
  · simp (disch := omega) only [gl_u2_eq, gl_u2_ne, gl_up_eq, gl_up_ne]
    rw [hr1 i hi]
    exact (h6.2.2.2.2.2 i hi).1
  · simp (disch := omega) only [gl_u2_eq, gl_u2_ne, gl_up_eq, gl_up_ne]
    rw [hr2 i hi]
    simp (disch := omega) only [gl_u2_eq, gl_u2_ne, gl_up_eq, gl_up_ne]
    exact (h6.2.2.2.2.2 i hi).2
set_option maxHeartbeats 4000000 in
set_option maxRecDepth 100000 in
theorem ct_X11_twin2_11 {l : Launch} {δ : gl_Del} {N : Nat} {sh : Nat → Nat × Nat} {I : Nat → Nat → Int32} {L : Nat → Nat → Int64} {B : Nat → Nat → Bool} {R : Nat → Nat → Option Nat} {p q st kl vl : Nat} {v : Nat → Int32} {n8 m : Nat} {stp ks : Nat → Int32} {vs : Nat → Int64} (h : Nat) (hh : 4 ≤ h) (hP : gl_pf (N, sh) I L R p st kl vl 11 v n8 stp m ks vs) (hkq : sh q = (19, 0)) (hpq : p ≠ q) (hqN : q < N) (hpN : p < N) (hsN : st < N) (hn8 : n8 < 2 ^ 24) (hkN : kl < N) (hvN : vl < N) (hsq : st ≠ q) (hklq : kl ≠ q) (hvlq : vl ≠ q) (hm : m < 2 ^ 24) : gl_Ct l δ yX11_twin_2 (ws_ yX11_twin_2 cX11_twin_2 2 ((some (FieldType.object "GlassLog$Proof")))) (gl_rm h 3 (m + m + n8)) 3 (m + m + n8) [.ref p, .ref q] ((N, sh), I, L, B, R) (gl_Qr fun o S => o = some q ∧ ∃ sh' I' L' B' R', S = ((N + 3, sh'), I', L', B', R') ∧ gl_tw q N (N + 3) sh sh' I I' L L' B B' R R' ∧ gl_pf (N + 3, sh') I' L' R' q (N + 2) N (N + 1) 11 v n8 stp m ks vs) := by
  refine gl_of (by decide) (Nat.le_of_ble_eq_true rfl) rfl ?_
  intro κ C hQ hlκ hδκ hnL hini
  change gl_Cx κ RX11 _ _ _ at C
  have h6 := hP.2.2.2.2.2 (Or.inr rfl)
  refine j_aload_n C dX11_twin_2_0 rfl 1 rfl ?_
  refine j_aload_n C dX11_twin_2_1 rfl 2 rfl ?_
  refine gf_X11_9_11 C hP.1 (c' := kl) h6.1 dX11_twin_2_2 5 rfl ?_
  refine j_aload_n C dX11_twin_2_5 rfl 6 rfl ?_
  refine gf_X11_9_11 C hP.1 (c' := kl) h6.1 dX11_twin_2_6 9 rfl ?_
  refine j_alen C (by decide) h6.2.2.1 dX11_twin_2_9 10 rfl ?_
  refine j_cr C (cs_X11_63 C (ct_J1_copyOfI (c := kl) (n := m) (len := m) (h - 1) (by omega) h6.2.2.1 hkN (Nat.le_refl _) hm) rfl (by omega) (by omega) (by omega) rfl (Nat.le_of_ble_eq_true rfl) dX11_twin_2_10) 13 rfl ?_
  rintro _ _ ⟨rfl, r1, hr1, rfl⟩
  refine pf_X11_9_11 C (x := 0) (by simp (disch := omega) only [gl_u2_eq, gl_u2_ne, gl_up_eq, gl_up_ne]; exact hkq) dX11_twin_2_13 16 rfl ?_
  refine j_aload_n C dX11_twin_2_16 rfl 17 rfl ?_
  refine j_aload_n C dX11_twin_2_17 rfl 18 rfl ?_
  refine gf_X11_34_11 C (x := 0) (by simp (disch := omega) only [gl_u2_eq, gl_u2_ne, gl_up_eq, gl_up_ne]; exact hP.1) (c' := vl) (by simp (disch := omega) only [gl_u2_eq, gl_u2_ne, gl_up_eq, gl_up_ne]; exact h6.2.1) dX11_twin_2_18 21 rfl ?_
  refine j_aload_n C dX11_twin_2_21 rfl 22 rfl ?_
  refine gf_X11_34_11 C (x := 0) (by simp (disch := omega) only [gl_u2_eq, gl_u2_ne, gl_up_eq, gl_up_ne]; exact hP.1) (c' := vl) (by simp (disch := omega) only [gl_u2_eq, gl_u2_ne, gl_up_eq, gl_up_ne]; exact h6.2.1) dX11_twin_2_22 25 rfl ?_
  refine j_alen C (by decide) (show va_up sh N (0, m) vl = (2, m) by rw [gl_up_ne (by omega)]; exact h6.2.2.2.1) dX11_twin_2_25 26 rfl ?_
  refine j_cr C (cs_X11_69 C (ct_J1_copyOfJ (c := vl) (n := m) (len := m) (h - 1) (by omega) (show va_up sh N (0, m) vl = (2, m) by rw [gl_up_ne (by omega)]; exact h6.2.2.2.1) (by omega) (Nat.le_refl _) hm) rfl (by omega) (by omega) (by omega) rfl (Nat.le_of_ble_eq_true rfl) dX11_twin_2_26) 29 rfl ?_
  rintro _ _ ⟨rfl, r2, hr2, rfl⟩
  refine pf_X11_34_11 C (x := 0) (by simp (disch := omega) only [gl_u2_eq, gl_u2_ne, gl_up_eq, gl_up_ne]; exact hkq) dX11_twin_2_29 32 rfl ?_
  refine j_aload_n C dX11_twin_2_32 rfl 33 rfl ?_
  refine j_aload_n C dX11_twin_2_33 rfl 34 rfl ?_
  refine j_cr C (cs_X11_72_11 C (ct_X10_become_11 (p := q) (q := p) (st := st) (n8 := n8) (h - 1) (by omega) (by simp (disch := omega) only [gl_u2_eq, gl_u2_ne, gl_up_eq, gl_up_ne]; exact hkq) (by simp (disch := omega) only [gl_u2_eq, gl_u2_ne, gl_up_eq, gl_up_ne]; exact hP.1) (Ne.symm hpq) (by omega) (by simp (disch := omega) only [gl_u2_eq, gl_u2_ne, gl_up_eq, gl_up_ne]; exact hP.2.1) (by simp (disch := omega) only [gl_u2_eq, gl_u2_ne, gl_up_eq, gl_up_ne]; exact hP.2.2.1) (by omega) hsq hn8) (xx := 0) (by simp (disch := omega) only [gl_u2_eq, gl_u2_ne, gl_up_eq, gl_up_ne]; exact hkq) rfl (by omega) (by omega) (by omega) rfl (Nat.le_of_ble_eq_true rfl) dX11_twin_2_34) 37 rfl ?_
  rintro _ _ ⟨rfl, r3, hr3, rfl⟩
  refine j_aret C (Or.inl ⟨_, rfl⟩) hQ ⟨rfl, _, _, _, _, _, rfl, ⟨by omega, fun c hc => ⟨by simp (disch := omega) only [gl_u2_eq, gl_u2_ne, gl_up_eq, gl_up_ne], by simp (disch := omega) only [gl_u2_eq, gl_u2_ne, gl_up_eq, gl_up_ne], by simp (disch := omega) only [gl_u2_eq, gl_u2_ne, gl_up_eq, gl_up_ne], fun hq => ⟨by simp (disch := omega) only [gl_u2_eq, gl_u2_ne, gl_up_eq, gl_up_ne], by simp (disch := omega) only [gl_u2_eq, gl_u2_ne, gl_up_eq, gl_up_ne]⟩⟩⟩, by show va_up _ (N + 1 + 1) _ q = _; simp (disch := omega) only [gl_u2_eq, gl_u2_ne, gl_up_eq, gl_up_ne]; exact hkq, by simp (disch := omega) only [gl_u2_eq, gl_u2_ne, gl_up_eq, gl_up_ne], by show va_up _ (N + 1 + 1) _ (N + 2) = _; simp (disch := omega) only [gl_u2_eq, gl_u2_ne, gl_up_eq, gl_up_ne], fun j hj => ?_, fun t ht => ?_, fun _ => ⟨by simp (disch := omega) only [gl_u2_eq, gl_u2_ne, gl_up_eq, gl_up_ne], by simp (disch := omega) only [gl_u2_eq, gl_u2_ne, gl_up_eq, gl_up_ne], by show va_up _ (N + 1 + 1) _ N = _; simp (disch := omega) only [gl_u2_eq, gl_u2_ne, gl_up_eq, gl_up_ne], by show va_up _ (N + 1 + 1) _ (N + 1) = _; simp (disch := omega) only [gl_u2_eq, gl_u2_ne, gl_up_eq, gl_up_ne], by omega, fun i hi => ⟨?_, ?_⟩⟩⟩ (by omega) (by omega) dX11_twin_2_37
  · have hj4 : j = 0 ∨ j = 1 ∨ j = 2 ∨ j = 3 := by unfold gl_fj at hj; omega
    rw [← hP.2.2.2.1 j hj]
    rcases hj4 with rfl | rfl | rfl | rfl <;> simp (disch := omega) only [gl_u2_eq, gl_u2_ne, gl_up_eq, gl_up_ne]
  · simp (disch := omega) only [gl_u2_eq, gl_u2_ne, gl_up_eq, gl_up_ne]
    rw [hr3 t ht]
    simp (disch := omega) only [gl_u2_eq, gl_u2_ne, gl_up_eq, gl_up_ne]
    exact hP.2.2.2.2.1 t ht
  · simp (disch := omega) only [gl_u2_eq, gl_u2_ne, gl_up_eq, gl_up_ne]
    rw [hr1 i hi]
    exact (h6.2.2.2.2.2 i hi).1
  · simp (disch := omega) only [gl_u2_eq, gl_u2_ne, gl_up_eq, gl_up_ne]
    rw [hr2 i hi]
    simp (disch := omega) only [gl_u2_eq, gl_u2_ne, gl_up_eq, gl_up_ne]
    exact (h6.2.2.2.2.2 i hi).2
set_option maxHeartbeats 4000000 in
set_option maxRecDepth 100000 in
theorem ct_X14_twin2_13 {l : Launch} {δ : gl_Del} {N : Nat} {sh : Nat → Nat × Nat} {I : Nat → Nat → Int32} {L : Nat → Nat → Int64} {B : Nat → Nat → Bool} {R : Nat → Nat → Option Nat} {p q st kl vl : Nat} {v : Nat → Int32} {n8 m : Nat} {stp ks : Nat → Int32} {vs : Nat → Int64} (h : Nat) (hh : 4 ≤ h) (hP : gl_pf (N, sh) I L R p st kl vl 13 v n8 stp m ks vs) (hkq : sh q = (21, 0)) (hpq : p ≠ q) (hqN : q < N) (hpN : p < N) (hsN : st < N) (hn8 : n8 < 2 ^ 24) (hsq : st ≠ q) : gl_Ct l δ yX14_twin (ws_ yX14_twin cX14_twin 2 ((some (FieldType.object "GlassLog$Proof")))) (gl_rm h 1 n8) 1 n8 [.ref p, .ref q] ((N, sh), I, L, B, R) (gl_Qr fun o S => o = some q ∧ ∃ sh' I' L' B' R', S = ((N + 1, sh'), I', L', B', R') ∧ gl_tw q N (N + 1) sh sh' I I' L L' B B' R R' ∧ gl_pf (N + 1, sh') I' L' R' q N kl vl 13 v n8 stp m ks vs) := by
  refine gl_of (by decide) (Nat.le_of_ble_eq_true rfl) rfl ?_
  intro κ C hQ hlκ hδκ hnL hini
  change gl_Cx κ RX14 _ _ _ at C
  refine j_aload_n C dX14_twin_0 rfl 1 rfl ?_
  refine j_aload_n C dX14_twin_1 rfl 2 rfl ?_
  refine gf_X14_9_13 C hP.1 dX14_twin_2 5 rfl ?_
  refine pf_X14_9_13 C hkq dX14_twin_5 8 rfl ?_
  refine j_aload_n C dX14_twin_8 rfl 9 rfl ?_
  refine j_aload_n C dX14_twin_9 rfl 10 rfl ?_
  refine gf_X14_15_13 C hP.1 dX14_twin_10 13 rfl ?_
  rw [gl_u2_ne hpq]
  refine pf_X14_15_13 C hkq dX14_twin_13 16 rfl ?_
  refine j_aload_n C dX14_twin_16 rfl 17 rfl ?_
  refine j_aload_n C dX14_twin_17 rfl 18 rfl ?_
  refine j_cr C (cs_X14_65_13 C (ct_X10_become_13 (p := q) (q := p) (st := st) (n8 := n8) (h - 1) (by omega) hkq hP.1 (Ne.symm hpq) hqN hP.2.1 hP.2.2.1 hsN hsq hn8) hkq rfl (by omega) (by omega) (by omega) rfl (Nat.le_of_ble_eq_true rfl) dX14_twin_18) 21 rfl ?_
  rintro _ _ ⟨rfl, r3, hr3, rfl⟩
  refine j_aret C (Or.inl ⟨_, rfl⟩) hQ ⟨rfl, _, _, _, _, _, rfl, ⟨by omega, fun c hc => ⟨by simp (disch := omega) only [gl_u2_eq, gl_u2_ne, gl_up_eq, gl_up_ne], by simp (disch := omega) only [gl_u2_eq, gl_u2_ne, gl_up_eq, gl_up_ne], by simp (disch := omega) only [gl_u2_eq, gl_u2_ne, gl_up_eq, gl_up_ne], fun hq => ⟨by simp (disch := omega) only [gl_u2_eq, gl_u2_ne, gl_up_eq, gl_up_ne], by simp (disch := omega) only [gl_u2_eq, gl_u2_ne, gl_up_eq, gl_up_ne]⟩⟩⟩, by show va_up _ N _ q = _; simp (disch := omega) only [gl_u2_eq, gl_u2_ne, gl_up_eq, gl_up_ne]; exact hkq, by simp (disch := omega) only [gl_u2_eq, gl_u2_ne, gl_up_eq, gl_up_ne], by show va_up _ N _ N = _; simp (disch := omega) only [gl_u2_eq, gl_u2_ne, gl_up_eq, gl_up_ne], fun j hj => ?_, fun t ht => ?_, fun q_ => by omega⟩ (by omega) (by omega) dX14_twin_21
  · have hj4 : j = 0 ∨ j = 1 ∨ j = 2 ∨ j = 3 ∨ j = 5 ∨ j = 6 := by unfold gl_fj at hj; omega
    rw [← hP.2.2.2.1 j hj]
    rcases hj4 with rfl | rfl | rfl | rfl | rfl | rfl
    · simp (disch := omega) only [gl_u2_eq, gl_u2_ne, gl_up_eq, gl_up_ne]
    · simp (disch := omega) only [gl_u2_eq, gl_u2_ne, gl_up_eq, gl_up_ne]
    · simp (disch := omega) only [gl_u2_eq, gl_u2_ne, gl_up_eq, gl_up_ne]
    · simp (disch := omega) only [gl_u2_eq, gl_u2_ne, gl_up_eq, gl_up_ne]
    · simp (disch := omega) only [gl_u2_eq, gl_u2_ne, gl_up_eq, gl_up_ne]
    · simp (disch := omega) only [gl_u2_eq, gl_u2_ne, gl_up_eq, gl_up_ne]
  · simp (disch := omega) only [gl_u2_eq, gl_u2_ne, gl_up_eq, gl_up_ne]
    rw [hr3 t ht]
    simp (disch := omega) only [gl_u2_eq, gl_u2_ne, gl_up_eq, gl_up_ne]
    exact hP.2.2.2.2.1 t ht
set_option maxHeartbeats 4000000 in
set_option maxRecDepth 100000 in
theorem ct_X14_twin2_14 {l : Launch} {δ : gl_Del} {N : Nat} {sh : Nat → Nat × Nat} {I : Nat → Nat → Int32} {L : Nat → Nat → Int64} {B : Nat → Nat → Bool} {R : Nat → Nat → Option Nat} {p q st kl vl : Nat} {v : Nat → Int32} {n8 m : Nat} {stp ks : Nat → Int32} {vs : Nat → Int64} (h : Nat) (hh : 4 ≤ h) (hP : gl_pf (N, sh) I L R p st kl vl 14 v n8 stp m ks vs) (hkq : sh q = (22, 0)) (hpq : p ≠ q) (hqN : q < N) (hpN : p < N) (hsN : st < N) (hn8 : n8 < 2 ^ 24) (hsq : st ≠ q) (hq7 : I q 7 = v 7) : gl_Ct l δ yX14_twin (ws_ yX14_twin cX14_twin 2 ((some (FieldType.object "GlassLog$Proof")))) (gl_rm h 1 n8) 1 n8 [.ref p, .ref q] ((N, sh), I, L, B, R) (gl_Qr fun o S => o = some q ∧ ∃ sh' I' L' B' R', S = ((N + 1, sh'), I', L', B', R') ∧ gl_tw q N (N + 1) sh sh' I I' L L' B B' R R' ∧ gl_pf (N + 1, sh') I' L' R' q N kl vl 14 v n8 stp m ks vs) := by
  refine gl_of (by decide) (Nat.le_of_ble_eq_true rfl) rfl ?_
  intro κ C hQ hlκ hδκ hnL hini
  change gl_Cx κ RX14 _ _ _ at C
  refine j_aload_n C dX14_twin_0 rfl 1 rfl ?_
  refine j_aload_n C dX14_twin_1 rfl 2 rfl ?_
  refine gf_X14_9_14 C hP.1 dX14_twin_2 5 rfl ?_
  refine pf_X14_9_14 C hkq dX14_twin_5 8 rfl ?_
  refine j_aload_n C dX14_twin_8 rfl 9 rfl ?_
  refine j_aload_n C dX14_twin_9 rfl 10 rfl ?_
  refine gf_X14_15_14 C hP.1 dX14_twin_10 13 rfl ?_
  rw [gl_u2_ne hpq]
  refine pf_X14_15_14 C hkq dX14_twin_13 16 rfl ?_
  refine j_aload_n C dX14_twin_16 rfl 17 rfl ?_
  refine j_aload_n C dX14_twin_17 rfl 18 rfl ?_
  refine j_cr C (cs_X14_65_14 C (ct_X10_become_14 (p := q) (q := p) (st := st) (n8 := n8) (h - 1) (by omega) hkq hP.1 (Ne.symm hpq) hqN hP.2.1 hP.2.2.1 hsN hsq hn8) hkq rfl (by omega) (by omega) (by omega) rfl (Nat.le_of_ble_eq_true rfl) dX14_twin_18) 21 rfl ?_
  rintro _ _ ⟨rfl, r3, hr3, rfl⟩
  refine j_aret C (Or.inl ⟨_, rfl⟩) hQ ⟨rfl, _, _, _, _, _, rfl, ⟨by omega, fun c hc => ⟨by simp (disch := omega) only [gl_u2_eq, gl_u2_ne, gl_up_eq, gl_up_ne], by simp (disch := omega) only [gl_u2_eq, gl_u2_ne, gl_up_eq, gl_up_ne], by simp (disch := omega) only [gl_u2_eq, gl_u2_ne, gl_up_eq, gl_up_ne], fun hq => ⟨by simp (disch := omega) only [gl_u2_eq, gl_u2_ne, gl_up_eq, gl_up_ne], by simp (disch := omega) only [gl_u2_eq, gl_u2_ne, gl_up_eq, gl_up_ne]⟩⟩⟩, by show va_up _ N _ q = _; simp (disch := omega) only [gl_u2_eq, gl_u2_ne, gl_up_eq, gl_up_ne]; exact hkq, by simp (disch := omega) only [gl_u2_eq, gl_u2_ne, gl_up_eq, gl_up_ne], by show va_up _ N _ N = _; simp (disch := omega) only [gl_u2_eq, gl_u2_ne, gl_up_eq, gl_up_ne], fun j hj => ?_, fun t ht => ?_, fun q_ => by omega⟩ (by omega) (by omega) dX14_twin_21
  · have hj4 : j = 0 ∨ j = 1 ∨ j = 2 ∨ j = 3 ∨ j = 5 ∨ j = 6 ∨ j = 7 := by unfold gl_fj at hj; omega
    rw [← hP.2.2.2.1 j hj]
    rcases hj4 with rfl | rfl | rfl | rfl | rfl | rfl | rfl
    · simp (disch := omega) only [gl_u2_eq, gl_u2_ne, gl_up_eq, gl_up_ne]
    · simp (disch := omega) only [gl_u2_eq, gl_u2_ne, gl_up_eq, gl_up_ne]
    · simp (disch := omega) only [gl_u2_eq, gl_u2_ne, gl_up_eq, gl_up_ne]
    · simp (disch := omega) only [gl_u2_eq, gl_u2_ne, gl_up_eq, gl_up_ne]
    · simp (disch := omega) only [gl_u2_eq, gl_u2_ne, gl_up_eq, gl_up_ne]
    · simp (disch := omega) only [gl_u2_eq, gl_u2_ne, gl_up_eq, gl_up_ne]
    · rw [hP.2.2.2.1 7 hj, ← hq7]
      simp (disch := omega) only [gl_u2_eq, gl_u2_ne, gl_up_eq, gl_up_ne]
  · simp (disch := omega) only [gl_u2_eq, gl_u2_ne, gl_up_eq, gl_up_ne]
    rw [hr3 t ht]
    simp (disch := omega) only [gl_u2_eq, gl_u2_ne, gl_up_eq, gl_up_ne]
    exact hP.2.2.2.2.1 t ht
theorem gl_tw.xt {N N' : Nat} {k : Nat × Nat} {sh sh' : Nat → Nat × Nat} {I I' I1 : Nat → Nat → Int32} {L L' : Nat → Nat → Int64} {B B' : Nat → Nat → Bool} {R R' : Nat → Nat → Option Nat} (h : gl_tw N (N + 1) N' (va_up sh N k) sh' I1 I' (va_up L N (fun _ => 0)) L' (va_up B N (fun _ => false)) B' (va_up R N (fun _ => none)) R') (h1 : ∀ c, c < N → I1 c = I c) : gl_xt 0 0 N N' sh sh' I I' L L' B B' R R' := ⟨by have := h.1; omega, fun c hc => by
  obtain ⟨a1, a2, a3, a4⟩ := h.2 c (by omega)
  rw [a1, a2, a3, (a4 (by omega)).1, gl_up_ne (by omega), gl_up_ne (by omega), gl_up_ne (by omega), gl_up_ne (by omega)]
  exact ⟨rfl, rfl, rfl, rfl, fun _ => by rw [(a4 (by omega)).2, h1 c hc]⟩⟩
set_option maxHeartbeats 4000000 in
set_option maxRecDepth 100000 in
theorem ct_X11_twin {l : Launch} {δ : gl_Del} {N : Nat} {sh : Nat → Nat × Nat} {I : Nat → Nat → Int32} {L : Nat → Nat → Int64} {B : Nat → Nat → Bool} {R : Nat → Nat → Option Nat} {p st kl vl : Nat} {v : Nat → Int32} {n8 m : Nat} {stp ks : Nat → Int32} {vs : Nat → Int64} (h : Nat) (hh : 6 ≤ h) (hP : gl_pf (N, sh) I L R p st kl vl 10 v n8 stp m ks vs) (hpN : p < N) (hsN : st < N) (hn8 : n8 < 2 ^ 24) (hkvN : (10 = 10 ∨ 10 = 11) → kl < N ∧ vl < N ∧ m < 2 ^ 24) : gl_Ct l δ yX11_twin (ws_ yX11_twin cX11_twin 1 ((some (FieldType.object "GlassLog$Proof")))) (gl_rm h 4 (7 + (m + m + n8))) 4 (7 + (m + m + n8)) [.ref p] ((N, sh), I, L, B, R) (gl_Qr fun o S => o = some N ∧ ∃ st' kl' vl' sh' I' L' B' R', S = ((N + 4, sh'), I', L', B', R') ∧ gl_xt 0 0 N (N + 4) sh sh' I I' L L' B B' R R' ∧ gl_pf (N + 4, sh') I' L' R' N st' kl' vl' 10 v n8 stp m ks vs ∧ N < st' ∧ st' < N + 4 ∧ ((10 = 10 ∨ 10 = 11) → N < kl' ∧ kl' < N + 4 ∧ N < vl' ∧ vl' < N + 4)) := by
  refine gl_of (by decide) (Nat.le_of_ble_eq_true rfl) rfl ?_
  intro κ C hQ hlκ hδκ hnL hini
  change gl_Cx κ RX11 _ _ _ at C
  have hkN := (hkvN (by decide)).1
  have hvN := (hkvN (by decide)).2.1
  have hmm := (hkvN (by decide)).2.2
  refine j_aload_n C dX11_twin_0 rfl 1 rfl ?_
  refine nw_X11_10 C (by omega) (by omega) dX11_twin_1 4 rfl ?_
  refine j_dup C dX11_twin_4 rfl 5 rfl ?_
  refine j_cv C (cs_X11_58 C (ct_X11_new (h - 1) (by omega)) rfl (by omega) (by omega) (by omega) rfl (Nat.le_of_ble_eq_true rfl) dX11_twin_5) 8 rfl ?_
  rintro _ rfl
  refine j_cr C (cs_X11_59_10 C (ct_X11_twin2_10 (N := N + 1) (p := p) (q := N) (h - 1) (by omega) (hP.of_eq (Λ' := (N + 1, va_up sh N (18, 0))) (I' := (va_up I N (fun _ => 0))) (L' := va_up L N (fun _ => 0)) (R' := va_up R N (fun _ => none)) ⟨gl_up_ne (by omega), by simp (disch := omega) only [gl_u2_eq, gl_u2_ne, gl_up_eq, gl_up_ne], gl_up_ne (by omega)⟩ ⟨gl_up_ne (by omega), by simp (disch := omega) only [gl_u2_eq, gl_u2_ne, gl_up_eq, gl_up_ne]⟩ (fun q_ => ⟨gl_up_ne (by have := hkN; omega), gl_up_ne (by have := hkN; omega), gl_up_ne (by have := hvN; omega), gl_up_ne (by have := hvN; omega)⟩)) gl_up_eq (by omega) (by omega) (by omega) (by omega) hn8 (by omega) (by omega) (by omega) (by omega) (by omega) hmm) (xx := 0) (by show va_up sh N _ p = _; rw [gl_up_ne (by omega)]; exact hP.1) rfl (by omega) (by omega) (by omega) rfl (Nat.le_of_ble_eq_true rfl) dX11_twin_8) 11 rfl ?_
  rintro _ _ ⟨rfl, sh', I', L', B', R', rfl, htw, hpf⟩
  exact j_aret C (Or.inl ⟨_, rfl⟩) hQ ⟨rfl, _, _, _, _, _, _, _, _, rfl, htw.xt (fun c hc => gl_up_ne (by omega)), hpf, by omega, by omega, fun _ => ⟨by omega, by omega, by omega, by omega⟩⟩ (by omega) (by omega) dX11_twin_11
set_option maxHeartbeats 4000000 in
set_option maxRecDepth 100000 in
theorem ct_X12_twin {l : Launch} {δ : gl_Del} {N : Nat} {sh : Nat → Nat × Nat} {I : Nat → Nat → Int32} {L : Nat → Nat → Int64} {B : Nat → Nat → Bool} {R : Nat → Nat → Option Nat} {p st kl vl : Nat} {v : Nat → Int32} {n8 m : Nat} {stp ks : Nat → Int32} {vs : Nat → Int64} (h : Nat) (hh : 6 ≤ h) (hP : gl_pf (N, sh) I L R p st kl vl 11 v n8 stp m ks vs) (hpN : p < N) (hsN : st < N) (hn8 : n8 < 2 ^ 24) (hkvN : (11 = 10 ∨ 11 = 11) → kl < N ∧ vl < N ∧ m < 2 ^ 24) : gl_Ct l δ yX12_twin (ws_ yX12_twin cX12_twin 1 ((some (FieldType.object "GlassLog$Proof")))) (gl_rm h 4 (7 + (m + m + n8))) 4 (7 + (m + m + n8)) [.ref p] ((N, sh), I, L, B, R) (gl_Qr fun o S => o = some N ∧ ∃ st' kl' vl' sh' I' L' B' R', S = ((N + 4, sh'), I', L', B', R') ∧ gl_xt 0 0 N (N + 4) sh sh' I I' L L' B B' R R' ∧ gl_pf (N + 4, sh') I' L' R' N st' kl' vl' 11 v n8 stp m ks vs ∧ N < st' ∧ st' < N + 4 ∧ ((11 = 10 ∨ 11 = 11) → N < kl' ∧ kl' < N + 4 ∧ N < vl' ∧ vl' < N + 4)) := by
  refine gl_of (by decide) (Nat.le_of_ble_eq_true rfl) rfl ?_
  intro κ C hQ hlκ hδκ hnL hini
  change gl_Cx κ RX12 _ _ _ at C
  have hkN := (hkvN (by decide)).1
  have hvN := (hkvN (by decide)).2.1
  have hmm := (hkvN (by decide)).2.2
  refine j_aload_n C dX12_twin_0 rfl 1 rfl ?_
  refine nw_X12_9 C (by omega) (by omega) dX12_twin_1 4 rfl ?_
  refine j_dup C dX12_twin_4 rfl 5 rfl ?_
  refine j_cv C (cs_X12_11 C (ct_X12_new (h - 1) (by omega)) rfl (by omega) (by omega) (by omega) rfl (Nat.le_of_ble_eq_true rfl) dX12_twin_5) 8 rfl ?_
  rintro _ rfl
  refine j_cr C (cs_X12_12_11 C (ct_X11_twin2_11 (N := N + 1) (p := p) (q := N) (h - 1) (by omega) (hP.of_eq (Λ' := (N + 1, va_up sh N (19, 0))) (I' := (va_up I N (fun _ => 0))) (L' := va_up L N (fun _ => 0)) (R' := va_up R N (fun _ => none)) ⟨gl_up_ne (by omega), by simp (disch := omega) only [gl_u2_eq, gl_u2_ne, gl_up_eq, gl_up_ne], gl_up_ne (by omega)⟩ ⟨gl_up_ne (by omega), by simp (disch := omega) only [gl_u2_eq, gl_u2_ne, gl_up_eq, gl_up_ne]⟩ (fun q_ => ⟨gl_up_ne (by have := hkN; omega), gl_up_ne (by have := hkN; omega), gl_up_ne (by have := hvN; omega), gl_up_ne (by have := hvN; omega)⟩)) gl_up_eq (by omega) (by omega) (by omega) (by omega) hn8 (by omega) (by omega) (by omega) (by omega) (by omega) hmm) (xx := 0) (by show va_up sh N _ p = _; rw [gl_up_ne (by omega)]; exact hP.1) rfl (by omega) (by omega) (by omega) rfl (Nat.le_of_ble_eq_true rfl) dX12_twin_8) 11 rfl ?_
  rintro _ _ ⟨rfl, sh', I', L', B', R', rfl, htw, hpf⟩
  exact j_aret C (Or.inl ⟨_, rfl⟩) hQ ⟨rfl, _, _, _, _, _, _, _, _, rfl, htw.xt (fun c hc => gl_up_ne (by omega)), hpf, by omega, by omega, fun _ => ⟨by omega, by omega, by omega, by omega⟩⟩ (by omega) (by omega) dX12_twin_11
set_option maxHeartbeats 4000000 in
set_option maxRecDepth 100000 in
theorem ct_X13_twin {l : Launch} {δ : gl_Del} {N : Nat} {sh : Nat → Nat × Nat} {I : Nat → Nat → Int32} {L : Nat → Nat → Int64} {B : Nat → Nat → Bool} {R : Nat → Nat → Option Nat} {p st kl vl : Nat} {v : Nat → Int32} {n8 m : Nat} {stp ks : Nat → Int32} {vs : Nat → Int64} (h : Nat) (hh : 6 ≤ h) (hP : gl_pf (N, sh) I L R p st kl vl 12 v n8 stp m ks vs) (hpN : p < N) (hsN : st < N) (hn8 : n8 < 2 ^ 24) (hkvN : (12 = 10 ∨ 12 = 11) → kl < N ∧ vl < N ∧ m < 2 ^ 24) : gl_Ct l δ yX13_twin (ws_ yX13_twin cX13_twin 1 ((some (FieldType.object "GlassLog$Proof")))) (gl_rm h 2 (5 + n8)) 2 (5 + n8) [.ref p] ((N, sh), I, L, B, R) (gl_Qr fun o S => o = some N ∧ ∃ st' kl' vl' sh' I' L' B' R', S = ((N + 2, sh'), I', L', B', R') ∧ gl_xt 0 0 N (N + 2) sh sh' I I' L L' B B' R R' ∧ gl_pf (N + 2, sh') I' L' R' N st' kl' vl' 12 v n8 stp m ks vs ∧ N < st' ∧ st' < N + 2 ∧ ((12 = 10 ∨ 12 = 11) → N < kl' ∧ kl' < N + 2 ∧ N < vl' ∧ vl' < N + 2)) := by
  refine gl_of (by decide) (Nat.le_of_ble_eq_true rfl) rfl ?_
  intro κ C hQ hlκ hδκ hnL hini
  change gl_Cx κ RX13 _ _ _ at C
  refine nw_X13_16 C (by omega) (by omega) dX13_twin_0 3 rfl ?_
  refine j_dup C dX13_twin_3 rfl 4 rfl ?_
  refine j_cv C (cs_X13_41 C (ct_X13_new (h - 1) (by omega)) rfl (by omega) (by omega) (by omega) rfl (Nat.le_of_ble_eq_true rfl) dX13_twin_4) 7 rfl ?_
  rintro _ rfl
  refine j_aload_n C dX13_twin_7 rfl 8 rfl ?_
  refine j_cr C (cs_X13_42_12 C (ct_X10_become_12 (N := N + 1) (p := N) (q := p) (st := st) (n8 := n8) (h - 1) (by omega) gl_up_eq (by rw [gl_up_ne (by omega)]; exact hP.1) (by omega) (by omega) (by rw [gl_up_ne (by omega)]; exact hP.2.1) (by rw [gl_up_ne (by omega)]; exact hP.2.2.1) (by omega) (by omega) hn8) (xx := 0) gl_up_eq rfl (by omega) (by omega) (by omega) rfl (Nat.le_of_ble_eq_true rfl) dX13_twin_8) 11 rfl ?_
  rintro _ _ ⟨rfl, r3, hr3, rfl⟩
  refine j_aret C (Or.inl ⟨_, rfl⟩) hQ ⟨rfl, N + 1, 0, 0, _, _, _, _, _, rfl, ⟨by omega, fun c hc => ⟨by simp (disch := omega) only [gl_u2_eq, gl_u2_ne, gl_up_eq, gl_up_ne], by simp (disch := omega) only [gl_u2_eq, gl_u2_ne, gl_up_eq, gl_up_ne], by simp (disch := omega) only [gl_u2_eq, gl_u2_ne, gl_up_eq, gl_up_ne], by simp (disch := omega) only [gl_u2_eq, gl_u2_ne, gl_up_eq, gl_up_ne], fun _ => by simp (disch := omega) only [gl_u2_eq, gl_u2_ne, gl_up_eq, gl_up_ne]⟩⟩, ⟨by show va_up _ (N + 1) _ N = _; simp (disch := omega) only [gl_u2_eq, gl_u2_ne, gl_up_eq, gl_up_ne], by simp (disch := omega) only [gl_u2_eq, gl_u2_ne, gl_up_eq, gl_up_ne], by show va_up _ (N + 1) _ (N + 1) = _; simp (disch := omega) only [gl_u2_eq, gl_u2_ne, gl_up_eq, gl_up_ne], fun j hj => ?_, fun t ht => ?_, fun q_ => by omega⟩, by omega, by omega, fun q_ => by omega⟩ (by omega) (by omega) dX13_twin_11
  · have hj4 : j = 0 ∨ j = 1 ∨ j = 2 ∨ j = 3 := by unfold gl_fj at hj; omega
    rw [← hP.2.2.2.1 j hj]
    rcases hj4 with rfl | rfl | rfl | rfl <;> simp (disch := omega) only [gl_u2_eq, gl_u2_ne, gl_up_eq, gl_up_ne]
  · simp (disch := omega) only [gl_u2_eq, gl_u2_ne, gl_up_eq, gl_up_ne]
    rw [hr3 t ht]
    simp (disch := omega) only [gl_u2_eq, gl_u2_ne, gl_up_eq, gl_up_ne]
    exact hP.2.2.2.2.1 t ht
set_option maxHeartbeats 4000000 in
set_option maxRecDepth 100000 in
theorem ct_X14_twin {l : Launch} {δ : gl_Del} {N : Nat} {sh : Nat → Nat × Nat} {I : Nat → Nat → Int32} {L : Nat → Nat → Int64} {B : Nat → Nat → Bool} {R : Nat → Nat → Option Nat} {p st kl vl : Nat} {v : Nat → Int32} {n8 m : Nat} {stp ks : Nat → Int32} {vs : Nat → Int64} (h : Nat) (hh : 6 ≤ h) (hP : gl_pf (N, sh) I L R p st kl vl 13 v n8 stp m ks vs) (hpN : p < N) (hsN : st < N) (hn8 : n8 < 2 ^ 24) (hkvN : (13 = 10 ∨ 13 = 11) → kl < N ∧ vl < N ∧ m < 2 ^ 24) : gl_Ct l δ yX14_twin_2 (ws_ yX14_twin_2 cX14_twin_2 1 ((some (FieldType.object "GlassLog$Proof")))) (gl_rm h 2 (7 + n8)) 2 (7 + n8) [.ref p] ((N, sh), I, L, B, R) (gl_Qr fun o S => o = some N ∧ ∃ st' kl' vl' sh' I' L' B' R', S = ((N + 2, sh'), I', L', B', R') ∧ gl_xt 0 0 N (N + 2) sh sh' I I' L L' B B' R R' ∧ gl_pf (N + 2, sh') I' L' R' N st' kl' vl' 13 v n8 stp m ks vs ∧ N < st' ∧ st' < N + 2 ∧ ((13 = 10 ∨ 13 = 11) → N < kl' ∧ kl' < N + 2 ∧ N < vl' ∧ vl' < N + 2)) := by
  refine gl_of (by decide) (Nat.le_of_ble_eq_true rfl) rfl ?_
  intro κ C hQ hlκ hδκ hnL hini
  change gl_Cx κ RX14 _ _ _ at C
  refine j_aload_n C dX14_twin_2_0 rfl 1 rfl ?_
  refine nw_X14_10 C (by omega) (by omega) dX14_twin_2_1 4 rfl ?_
  refine j_dup C dX14_twin_2_4 rfl 5 rfl ?_
  refine j_cv C (cs_X14_60 C (ct_X14_new (h - 1) (by omega)) rfl (by omega) (by omega) (by omega) rfl (Nat.le_of_ble_eq_true rfl) dX14_twin_2_5) 8 rfl ?_
  rintro _ rfl
  refine j_cr C (cs_X14_61_13 C (ct_X14_twin2_13 (N := N + 1) (p := p) (q := N) (h - 1) (by omega) (hP.of_eq (Λ' := (N + 1, va_up sh N (21, 0))) (I' := (va_up I N (fun _ => 0))) (L' := va_up L N (fun _ => 0)) (R' := va_up R N (fun _ => none)) ⟨gl_up_ne (by omega), by simp (disch := omega) only [gl_u2_eq, gl_u2_ne, gl_up_eq, gl_up_ne], gl_up_ne (by omega)⟩ ⟨gl_up_ne (by omega), by simp (disch := omega) only [gl_u2_eq, gl_u2_ne, gl_up_eq, gl_up_ne]⟩ (fun q_ => by omega)) gl_up_eq (by omega) (by omega) (by omega) (by omega) hn8 (by omega)) (xx := 0) (by show va_up sh N _ p = _; rw [gl_up_ne (by omega)]; exact hP.1) rfl (by omega) (by omega) (by omega) rfl (Nat.le_of_ble_eq_true rfl) dX14_twin_2_8) 11 rfl ?_
  rintro _ _ ⟨rfl, sh', I', L', B', R', rfl, htw, hpf⟩
  exact j_aret C (Or.inl ⟨_, rfl⟩) hQ ⟨rfl, _, _, _, _, _, _, _, _, rfl, htw.xt (fun c hc => gl_up_ne (by omega)), hpf, by omega, by omega, fun q_ => by omega⟩ (by omega) (by omega) dX14_twin_2_11
set_option maxHeartbeats 4000000 in
set_option maxRecDepth 100000 in
theorem ct_X15_twin {l : Launch} {δ : gl_Del} {N : Nat} {sh : Nat → Nat × Nat} {I : Nat → Nat → Int32} {L : Nat → Nat → Int64} {B : Nat → Nat → Bool} {R : Nat → Nat → Option Nat} {p st kl vl : Nat} {v : Nat → Int32} {n8 m : Nat} {stp ks : Nat → Int32} {vs : Nat → Int64} (h : Nat) (hh : 6 ≤ h) (hP : gl_pf (N, sh) I L R p st kl vl 14 v n8 stp m ks vs) (hpN : p < N) (hsN : st < N) (hn8 : n8 < 2 ^ 24) (hkvN : (14 = 10 ∨ 14 = 11) → kl < N ∧ vl < N ∧ m < 2 ^ 24) : gl_Ct l δ yX15_twin (ws_ yX15_twin cX15_twin 2 ((some (FieldType.object "GlassLog$Proof")))) (gl_rm h 2 (8 + n8)) 2 (8 + n8) [.ref p] ((N, sh), I, L, B, R) (gl_Qr fun o S => o = some N ∧ ∃ st' kl' vl' sh' I' L' B' R', S = ((N + 2, sh'), I', L', B', R') ∧ gl_xt 0 0 N (N + 2) sh sh' I I' L L' B B' R R' ∧ gl_pf (N + 2, sh') I' L' R' N st' kl' vl' 14 v n8 stp m ks vs ∧ N < st' ∧ st' < N + 2 ∧ ((14 = 10 ∨ 14 = 11) → N < kl' ∧ kl' < N + 2 ∧ N < vl' ∧ vl' < N + 2)) := by
  refine gl_of (by decide) (Nat.le_of_ble_eq_true rfl) rfl ?_
  intro κ C hQ hlκ hδκ hnL hini
  change gl_Cx κ RX15 _ _ _ at C
  refine nw_X15_10 C (by omega) (by omega) dX15_twin_0 3 rfl ?_
  refine j_dup C dX15_twin_3 rfl 4 rfl ?_
  refine j_cv C (cs_X15_35 C (ct_X15_new (h - 1) (by omega)) rfl (by omega) (by omega) (by omega) rfl (Nat.le_of_ble_eq_true rfl) dX15_twin_4) 7 rfl ?_
  rintro _ rfl
  refine j_astore_n C dX15_twin_7 (Nat.le_of_ble_eq_true rfl) (by rw [hnL]; decide) rfl 8 rfl ?_
  refine j_aload_n C dX15_twin_8 rfl 9 rfl ?_
  refine j_aload_n C dX15_twin_9 rfl 10 rfl ?_
  refine gf_X15_9 C (x := 0) (by show va_up sh N _ p = _; rw [gl_up_ne (by omega)]; exact hP.1) dX15_twin_10 13 rfl ?_
  rw [gl_up_ne (show p ≠ N by omega)]
  refine pf_X15_9 C (x := 0) gl_up_eq dX15_twin_13 16 rfl ?_
  refine j_aload_n C dX15_twin_16 rfl 17 rfl ?_
  refine j_aload_n C dX15_twin_17 rfl 18 rfl ?_
  refine j_cr C (cs_X15_36_14 C (ct_X14_twin2_14 (N := N + 1) (p := p) (q := N) (h - 1) (by omega) (hP.of_eq (Λ' := (N + 1, va_up sh N (22, 0))) (I' := (gl_u2 (va_up I N (fun _ => 0)) N 7 (I p 7))) (L' := va_up L N (fun _ => 0)) (R' := va_up R N (fun _ => none)) ⟨gl_up_ne (by omega), by simp (disch := omega) only [gl_u2_eq, gl_u2_ne, gl_up_eq, gl_up_ne], gl_up_ne (by omega)⟩ ⟨gl_up_ne (by omega), by simp (disch := omega) only [gl_u2_eq, gl_u2_ne, gl_up_eq, gl_up_ne]⟩ (fun q_ => by omega)) gl_up_eq (by omega) (by omega) (by omega) (by omega) hn8 (by omega) (by rw [gl_u2_eq, gl_up_eq]; exact hP.2.2.2.1 7 (Or.inr (Or.inr ⟨rfl, rfl⟩)))) (xx := 0) (by show va_up sh N _ p = _; rw [gl_up_ne (by omega)]; exact hP.1) rfl (by omega) (by omega) (by omega) rfl (Nat.le_of_ble_eq_true rfl) dX15_twin_18) 21 rfl ?_
  rintro _ _ ⟨rfl, sh', I', L', B', R', rfl, htw, hpf⟩
  exact j_aret C (Or.inl ⟨_, rfl⟩) hQ ⟨rfl, _, _, _, _, _, _, _, _, rfl, htw.xt (fun c hc => by rw [gl_u2_ne (by omega), gl_up_ne (by omega)]), hpf, by omega, by omega, fun q_ => by omega⟩ (by omega) (by omega) dX15_twin_21
