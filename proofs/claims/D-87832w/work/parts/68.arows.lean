/-! rows of the frame: clone, checkcast of arrays, Math.max, Math.min; Arrays.copyOf (by gen68a.py) -/
set_option maxRecDepth 100000
section RWC
variable {κ : gl_Kap} {own : String} {cc : ByteArray} {ret : Option FieldType} {nc ns pc h M Ms index : Nat} {S : gl_Sto} {ls : List (Option Value)} {st : List Value}
variable {I : Nat → Nat → Int32} {L : Nat → Nat → Int64} {B : Nat → Nat → Bool} {R : Nat → Nat → Option Nat} {N : Nat} {sh : Nat → Nat × Nat}
theorem j_cloneI (C : gl_Cx κ own cc (gl_rm h M Ms) ret) {c n : Nat} (q1 : Cond.methodLink own index ⟨"[I", "clone", "()Ljava/lang/Object;"⟩ ∈ lw_all) (hk : sh c = (0, n)) (hh : 1 ≤ h) (h1 : nc + 1 ≤ M) (h2 : ns + n ≤ Ms) (hr : (st.map fun v => v.category).sum ≤ 8) (d : decode cc pc = .ok (.invokevirtual index, 3)) (n' : Nat) (hn : pc + 3 = n') (k : gl_J κ (nc + 1) (ns + n) ((N + 1, va_up sh N (0, n)), va_up I N (I c), va_up L N (fun _ => 0), va_up B N (fun _ => false), va_up R N (fun _ => none)) n' ls (.ref N :: st)) : gl_J κ nc ns ((N, sh), I, L, B, R) pc ls (.ref c :: st) := by
  subst hn
  intro ad H locs la hW hS hX ho hs hl
  have hc : c < N := gl_okh hs
  have e : gl_R κ = gl_rm h M Ms := C.ro
  refine va_clone (ad := "[I") C.ex C.bt (by rw [C.ml]; exact hl.1.symm) C.ow (C.ts _ q1) (C.ts _ q658) (C.ts _ q659) (C.ts _ q660) (C.ts _ q661) (C.nw q662 rfl) C.K hW.1 hW.2.1 hS C.hA c 0 (gl_at_i (S := ((N, sh), I, L, B, R)) hc hk) rfl (va_nm_int ((C.K.2 0 _ rfl).2)) (fun i v hv => by rw [vp_cell_i] at hv; exact va_fit (fun i _ => rfl) i v hv) (by rw [show κ.1.2.2.2.1 = _ from e]; exact hh) (by
    rw [show κ.1.2.2.2.1 = _ from e, gl_cat_map]
    show _ ≤ 60 * h
    omega) (by rw [show κ.1.2.2.2.1 = _ from e]; exact h1) (by rw [show κ.1.2.2.2.1 = _ from e]; exact h2) d (fun q H1 hK1 hP1 hD1 hS1 => ?_)
  have hw := gl_W.push (δ := gl_d κ) (A := gl_A κ) (kk := (0, n)) (Ir := I c) (Lr := fun _ => 0) (Br := fun _ => false) hW.2.2 rfl hP1 hD1
  have kk := k (va_up ad N q) H1 locs la hw hS1 (gl_X_new hX rfl) (gl_okl_mono (Nat.le_succ N) ho) (gl_okc (show N < N + 1 by omega) (gl_oks_mono (Nat.le_succ N) (gl_ok1 hs))) (by rw [gl_lp_same gl_new_same 0 ho]; exact hl)
  rw [List.map_cons, gl_sv_same gl_new_same (gl_ok1 hs)] at kk
  have e2 : gl_v (va_up ad N q) (.ref N) = .ref q := congrArg Value.ref gl_up_eq
  rw [e2] at kk
  exact kk
theorem j_castAI (C : gl_Cx κ own cc (gl_rm h M Ms) ret) {c n : Nat} (q1 : Cond.classLink own index "[I" ∈ lw_all) (hk : S.1.2 c = (0, n)) (d : decode cc pc = .ok (.checkcast index, 3)) (n' : Nat) (hn : pc + 3 = n') (k : gl_J κ nc ns S n' ls (.ref c :: st)) : gl_J κ nc ns S pc ls (.ref c :: st) := by
  subst hn
  intro ad H locs la hW hS hX ho hs hl
  exact va_castA C.ex C.bt C.ow (C.ts _ q1) hW.1 c (gl_at_i (gl_okh hs) hk) (va_nm_int ((C.K.2 0 _ rfl).2)) d (k ad H locs la hW hS hX ho hs hl)
theorem j_cloneJ (C : gl_Cx κ own cc (gl_rm h M Ms) ret) {c n : Nat} (q1 : Cond.methodLink own index ⟨"[J", "clone", "()Ljava/lang/Object;"⟩ ∈ lw_all) (hk : sh c = (2, n)) (hh : 1 ≤ h) (h1 : nc + 1 ≤ M) (h2 : ns + n ≤ Ms) (hr : (st.map fun v => v.category).sum ≤ 8) (d : decode cc pc = .ok (.invokevirtual index, 3)) (n' : Nat) (hn : pc + 3 = n') (k : gl_J κ (nc + 1) (ns + n) ((N + 1, va_up sh N (2, n)), va_up I N (fun _ => 0), va_up L N (L c), va_up B N (fun _ => false), va_up R N (fun _ => none)) n' ls (.ref N :: st)) : gl_J κ nc ns ((N, sh), I, L, B, R) pc ls (.ref c :: st) := by
  subst hn
  intro ad H locs la hW hS hX ho hs hl
  have hc : c < N := gl_okh hs
  have e : gl_R κ = gl_rm h M Ms := C.ro
  refine va_clone (ad := "[J") C.ex C.bt (by rw [C.ml]; exact hl.1.symm) C.ow (C.ts _ q1) (C.ts _ q1158) (C.ts _ q659) (C.ts _ q660) (C.ts _ q1159) (C.nw q1160 rfl) C.K hW.1 hW.2.1 hS C.hA c 2 (gl_at_l (S := ((N, sh), I, L, B, R)) hc hk) rfl (va_nm_long ((C.K.2 2 _ rfl).2)) (fun i v hv => by rw [vp_cell_l] at hv; exact va_fit (fun i _ => rfl) i v hv) (by rw [show κ.1.2.2.2.1 = _ from e]; exact hh) (by
    rw [show κ.1.2.2.2.1 = _ from e, gl_cat_map]
    show _ ≤ 60 * h
    omega) (by rw [show κ.1.2.2.2.1 = _ from e]; exact h1) (by rw [show κ.1.2.2.2.1 = _ from e]; exact h2) d (fun q H1 hK1 hP1 hD1 hS1 => ?_)
  have hw := gl_W.push (δ := gl_d κ) (A := gl_A κ) (kk := (2, n)) (Ir := fun _ => 0) (Lr := L c) (Br := fun _ => false) hW.2.2 rfl hP1 hD1
  have kk := k (va_up ad N q) H1 locs la hw hS1 (gl_X_new hX rfl) (gl_okl_mono (Nat.le_succ N) ho) (gl_okc (show N < N + 1 by omega) (gl_oks_mono (Nat.le_succ N) (gl_ok1 hs))) (by rw [gl_lp_same gl_new_same 0 ho]; exact hl)
  rw [List.map_cons, gl_sv_same gl_new_same (gl_ok1 hs)] at kk
  have e2 : gl_v (va_up ad N q) (.ref N) = .ref q := congrArg Value.ref gl_up_eq
  rw [e2] at kk
  exact kk
theorem j_castAJ (C : gl_Cx κ own cc (gl_rm h M Ms) ret) {c n : Nat} (q1 : Cond.classLink own index "[J" ∈ lw_all) (hk : S.1.2 c = (2, n)) (d : decode cc pc = .ok (.checkcast index, 3)) (n' : Nat) (hn : pc + 3 = n') (k : gl_J κ nc ns S n' ls (.ref c :: st)) : gl_J κ nc ns S pc ls (.ref c :: st) := by
  subst hn
  intro ad H locs la hW hS hX ho hs hl
  exact va_castA C.ex C.bt C.ow (C.ts _ q1) hW.1 c (gl_at_l (gl_okh hs) hk) (va_nm_long ((C.K.2 2 _ rfl).2)) d (k ad H locs la hW hS hX ho hs hl)
theorem j_mmax (C : gl_Cx κ own cc (gl_rm h M Ms) ret) {x y : Int32} (q1 : Cond.methodLink own index Lib.Math.max.name ∈ lw_all) (hh : 1 ≤ h) (h1 : nc ≤ M) (h2 : ns ≤ Ms) (hr : (st.map fun v => v.category).sum ≤ 8) (d : decode cc pc = .ok (.invokestatic index, 3)) (n' : Nat) (hn : pc + 3 = n') (k : gl_J κ nc ns S n' ls (.int (if x < y then y else x) :: st)) : gl_J κ nc ns S pc ls (.int y :: .int x :: st) := by
  subst hn
  intro ad H locs la hW hS hX ho hs hl
  have e : gl_R κ = gl_rm h M Ms := C.ro
  exact va_mmax C.ex C.bt (by rw [C.ml]; exact hl.1.symm) C.ow (C.ts _ q1) (C.ts _ q1086) (C.ts _ q73) (C.ts _ q1087) (by rw [show κ.1.2.2.2.1 = _ from e]; exact hh) (by
    rw [show κ.1.2.2.2.1 = _ from e, gl_cat_map]
    show _ ≤ 60 * h
    omega) (by rw [show κ.1.2.2.2.1 = _ from e]; exact h1) (by rw [show κ.1.2.2.2.1 = _ from e]; exact h2) d (k ad H locs la hW hS hX ho (gl_oki (gl_ok2 hs)) hl)
theorem j_mmin (C : gl_Cx κ own cc (gl_rm h M Ms) ret) {x y : Int32} (q1 : Cond.methodLink own index Lib.Math.min.name ∈ lw_all) (hh : 1 ≤ h) (h1 : nc ≤ M) (h2 : ns ≤ Ms) (hr : (st.map fun v => v.category).sum ≤ 8) (d : decode cc pc = .ok (.invokestatic index, 3)) (n' : Nat) (hn : pc + 3 = n') (k : gl_J κ nc ns S n' ls (.int (if y < x then y else x) :: st)) : gl_J κ nc ns S pc ls (.int y :: .int x :: st) := by
  subst hn
  intro ad H locs la hW hS hX ho hs hl
  have e : gl_R κ = gl_rm h M Ms := C.ro
  exact va_mmin C.ex C.bt (by rw [C.ml]; exact hl.1.symm) C.ow (C.ts _ q1) (C.ts _ q665) (C.ts _ q73) (C.ts _ q666) (by rw [show κ.1.2.2.2.1 = _ from e]; exact hh) (by
    rw [show κ.1.2.2.2.1 = _ from e, gl_cat_map]
    show _ ≤ 60 * h
    omega) (by rw [show κ.1.2.2.2.1 = _ from e]; exact h1) (by rw [show κ.1.2.2.2.1 = _ from e]; exact h2) d (k ad H locs la hW hS hX ho (gl_oki (gl_ok2 hs)) hl)
end RWC
set_option maxHeartbeats 4000000 in
set_option maxRecDepth 100000 in
theorem ct_J1_copyOfI {l : Launch} {δ : gl_Del} {N : Nat} {sh : Nat → Nat × Nat} {I : Nat → Nat → Int32} {L : Nat → Nat → Int64} {B : Nat → Nat → Bool} {R : Nat → Nat → Option Nat} {c n len : Nat} (h : Nat) (hh : 2 ≤ h) (hk : sh c = (0, len)) (hc : c < N) (hn : n ≤ len) (hb : len < 2 ^ 24) : gl_Ct l δ yJ1_copyOf (ws_ yJ1_copyOf cJ1_copyOf 3 ((some (FieldType.array FieldType.int)))) (gl_rm h 1 n) 1 n [.ref c, .int (nI n)] ((N, sh), I, L, B, R) (gl_Qr fun o S => o = some N ∧ ∃ r : Nat → Int32, (∀ t, t < n → r t = I c t) ∧ S = ((N + 1, va_up sh N (0, n)), va_up I N r, va_up L N (fun _ => 0), va_up B N (fun _ => false), va_up R N (fun _ => none))) := by
  refine gl_of (by decide) (Nat.le_of_ble_eq_true rfl) rfl ?_
  intro κ C hQ hlκ hδκ hnL hini
  change gl_Cx κ RJ1 _ _ _ at C
  refine j_iload_n C dJ1_copyOf_0 rfl 1 rfl ?_
  refine j_aload_n C dJ1_copyOf_1 rfl 2 rfl ?_
  refine j_alen C (by decide) hk dJ1_copyOf_2 3 rfl ?_
  refine n_icmp_ne C 14 6 dJ1_copyOf_3 (by decide) rfl (by omega) (by omega) (fun c_3 => ?_) (fun c_3 => ?_)
  · refine j_iload_n C dJ1_copyOf_14 rfl 15 rfl ?_
    refine j_newarrI C (by omega) (by omega) (by omega) dJ1_copyOf_15 17 rfl ?_
    refine j_astore_n C dJ1_copyOf_17 (Nat.le_of_ble_eq_true rfl) (by rw [hnL]; decide) rfl 18 rfl ?_
    refine j_aload_n C dJ1_copyOf_18 rfl 19 rfl ?_
    refine j_iconst (v := nI 0) C dJ1_copyOf_19 (by decide) 20 rfl ?_
    refine j_aload_n C dJ1_copyOf_20 rfl 21 rfl ?_
    refine j_iconst (v := nI 0) C dJ1_copyOf_21 (by decide) 22 rfl ?_
    refine j_aload_n C dJ1_copyOf_22 rfl 23 rfl ?_
    refine j_alen C (by decide) (show va_up sh N (0, n) c = (0, len) by rw [gl_up_ne (by omega)]; exact hk) dJ1_copyOf_23 24 rfl ?_
    refine j_iload_n C dJ1_copyOf_24 rfl 25 rfl ?_
    refine j_mmin C q664 (by omega) (by omega) (by omega) (Nat.le_of_ble_eq_true rfl) dJ1_copyOf_25 28 rfl ?_
    rw [if_pos ((nI_ltI (by omega) (by omega)).mpr (show n < len by omega))]
    refine j_copyI C q667 (show va_up sh N (0, n) c = (0, len) by rw [gl_up_ne (by omega)]; exact hk) gl_up_eq (by omega) (by omega) (by omega) (by omega) (by omega) (Nat.le_of_ble_eq_true rfl) dJ1_copyOf_28 31 rfl ?_
    refine j_aload_n C dJ1_copyOf_31 rfl 32 rfl ?_
    exact j_aret C (Or.inr ⟨_, rfl⟩) hQ ⟨rfl, va_cpy (I c) (fun _ => 0) 0 0 n, fun t ht => by rw [pk_cpy_in (by omega) (by omega)]; congr 1; omega, by rw [gl_up_up, gl_up_eq, gl_up_ne (show c ≠ N by omega)]⟩ (by omega) (by omega) dJ1_copyOf_32
  · subst c_3
    refine j_aload_n C dJ1_copyOf_6 rfl 7 rfl ?_
    refine j_cloneI C q657 hk (by omega) (by omega) (by omega) (Nat.le_of_ble_eq_true rfl) dJ1_copyOf_7 10 rfl ?_
    refine j_castAI C q663 gl_up_eq dJ1_copyOf_10 13 rfl ?_
    exact j_aret C (Or.inr ⟨_, rfl⟩) hQ ⟨rfl, I c, fun _ _ => rfl, rfl⟩ (by omega) (by omega) dJ1_copyOf_13
set_option maxHeartbeats 4000000 in
set_option maxRecDepth 100000 in
theorem ct_J1_copyOfJ {l : Launch} {δ : gl_Del} {N : Nat} {sh : Nat → Nat × Nat} {I : Nat → Nat → Int32} {L : Nat → Nat → Int64} {B : Nat → Nat → Bool} {R : Nat → Nat → Option Nat} {c n len : Nat} (h : Nat) (hh : 2 ≤ h) (hk : sh c = (2, len)) (hc : c < N) (hn : n ≤ len) (hb : len < 2 ^ 24) : gl_Ct l δ yJ1_copyOf_2 (ws_ yJ1_copyOf_2 cJ1_copyOf_2 3 ((some (FieldType.array FieldType.long)))) (gl_rm h 1 n) 1 n [.ref c, .int (nI n)] ((N, sh), I, L, B, R) (gl_Qr fun o S => o = some N ∧ ∃ r : Nat → Int64, (∀ t, t < n → r t = L c t) ∧ S = ((N + 1, va_up sh N (2, n)), va_up I N (fun _ => 0), va_up L N r, va_up B N (fun _ => false), va_up R N (fun _ => none))) := by
  refine gl_of (by decide) (Nat.le_of_ble_eq_true rfl) rfl ?_
  intro κ C hQ hlκ hδκ hnL hini
  change gl_Cx κ RJ1 _ _ _ at C
  refine j_iload_n C dJ1_copyOf_2_0 rfl 1 rfl ?_
  refine j_aload_n C dJ1_copyOf_2_1 rfl 2 rfl ?_
  refine j_alen C (by decide) hk dJ1_copyOf_2_2 3 rfl ?_
  refine n_icmp_ne C 14 6 dJ1_copyOf_2_3 (by decide) rfl (by omega) (by omega) (fun c_3 => ?_) (fun c_3 => ?_)
  · refine j_iload_n C dJ1_copyOf_2_14 rfl 15 rfl ?_
    refine j_newarrJ C (by omega) (by omega) (by omega) dJ1_copyOf_2_15 17 rfl ?_
    refine j_astore_n C dJ1_copyOf_2_17 (Nat.le_of_ble_eq_true rfl) (by rw [hnL]; decide) rfl 18 rfl ?_
    refine j_aload_n C dJ1_copyOf_2_18 rfl 19 rfl ?_
    refine j_iconst (v := nI 0) C dJ1_copyOf_2_19 (by decide) 20 rfl ?_
    refine j_aload_n C dJ1_copyOf_2_20 rfl 21 rfl ?_
    refine j_iconst (v := nI 0) C dJ1_copyOf_2_21 (by decide) 22 rfl ?_
    refine j_aload_n C dJ1_copyOf_2_22 rfl 23 rfl ?_
    refine j_alen C (by decide) (show va_up sh N (2, n) c = (2, len) by rw [gl_up_ne (by omega)]; exact hk) dJ1_copyOf_2_23 24 rfl ?_
    refine j_iload_n C dJ1_copyOf_2_24 rfl 25 rfl ?_
    refine j_mmin C q664 (by omega) (by omega) (by omega) (Nat.le_of_ble_eq_true rfl) dJ1_copyOf_2_25 28 rfl ?_
    rw [if_pos ((nI_ltI (by omega) (by omega)).mpr (show n < len by omega))]
    refine j_copyJ C q667 (show va_up sh N (2, n) c = (2, len) by rw [gl_up_ne (by omega)]; exact hk) gl_up_eq (by omega) (by omega) (by omega) (by omega) (by omega) (Nat.le_of_ble_eq_true rfl) dJ1_copyOf_2_28 31 rfl ?_
    refine j_aload_n C dJ1_copyOf_2_31 rfl 32 rfl ?_
    exact j_aret C (Or.inr ⟨_, rfl⟩) hQ ⟨rfl, va_cpy (L c) (fun _ => 0) 0 0 n, fun t ht => by rw [pk_cpy_in (by omega) (by omega)]; congr 1; omega, by rw [gl_up_up, gl_up_eq, gl_up_ne (show c ≠ N by omega)]⟩ (by omega) (by omega) dJ1_copyOf_2_32
  · subst c_3
    refine j_aload_n C dJ1_copyOf_2_6 rfl 7 rfl ?_
    refine j_cloneJ C q1157 hk (by omega) (by omega) (by omega) (Nat.le_of_ble_eq_true rfl) dJ1_copyOf_2_7 10 rfl ?_
    refine j_castAJ C q1161 gl_up_eq dJ1_copyOf_2_10 13 rfl ?_
    exact j_aret C (Or.inr ⟨_, rfl⟩) hQ ⟨rfl, L c, fun _ _ => rfl, rfl⟩ (by omega) (by omega) dJ1_copyOf_2_13
