/-! MODULE Model, slots: begin, step, isStep, step asked, bend, drop (by gen43.py) -/
set_option maxRecDepth 100000
/-- a slot begun anew -/
def gl_bg (f : Nat → Int32) (s : Nat) (kd n a b : Int32) : Nat → Int32 := va_up (va_up (va_up (va_up (va_cpy (fun _ => nI 0) f 0 (8 * s) 8) (8 * s) kd) (8 * s + 2) n) (8 * s + 3) a) (8 * s + 4) b
theorem gl_bg_1 {f : Nat → Int32} {s : Nat} {kd n a b : Int32} : gl_bg f s kd n a b (8 * s + 1) = nI 0 := by
  unfold gl_bg
  rw [gl_up_ne (by omega), gl_up_ne (by omega), gl_up_ne (by omega), gl_up_ne (by omega), pk_cpy_in (by omega) (by omega)]
theorem gl_bg_o {f : Nat → Int32} {s k : Nat} {kd n a b : Int32} (h : k < 8 * s ∨ 8 * s + 8 ≤ k) : gl_bg f s kd n a b k = f k := by
  unfold gl_bg
  rw [gl_up_ne (by omega), gl_up_ne (by omega), gl_up_ne (by omega), gl_up_ne (by omega), pk_cpy_out (by omega)]
set_option maxHeartbeats 4000000 in
set_option maxRecDepth 100000 in
theorem ct_X9_begin {l : Launch} {δ : gl_Del} {I : Nat → Nat → Int32} {L : Nat → Nat → Int64} {B : Nat → Nat → Bool} {s : Nat} {kd n a b : Int32} (h : Nat) (hh : 1 ≤ h) (hs : s < 16) : gl_Ct l δ yX9_begin (ws_ yX9_begin cX9_begin 7 none) (gl_rm h 0 0) 0 0 [.ref 0, .int (nI s), .int kd, .int n, .int a, .int b] (gl_mL, I, L, B, gl_mR) (gl_Qv fun S => S = (gl_mL, va_up I 9 (gl_bg (I 9) s kd n a b), L, B, gl_mR)) := by
  refine gl_of (by decide) (Nat.le_of_ble_eq_true rfl) rfl ?_
  intro κ C hQ hlκ hδκ hnL hini
  change gl_Cx κ RX9 _ _ _ at C
  have loop : ∀ k j : Nat, j + k = 8 → gl_J κ 0 0 (gl_mL, va_up I 9 (va_cpy (fun _ => nI 0) (I 9) 0 (8 * s) j), L, B, gl_mR) 3 [some (.ref 0), some (.int (nI s)), some (.int kd), some (.int n), some (.int a), some (.int b), some (.int (nI j))] [] := by
    intro k
    induction k with
    | zero =>
      intro j hj
      have hjN : j = 8 := by omega
      subst hjN
      refine j_iload C dX9_begin_3 rfl 5 rfl ?_
      refine j_bipush (v := nI 8) C dX9_begin_5 (by decide) 7 rfl ?_
      refine n_icmp_ge C 29 10 dX9_begin_7 (by decide) rfl (by omega) (by omega) (fun c_7 => ?_) (fun c_7 => ?_)
      · refine j_aload_n C dX9_begin_29 rfl 30 rfl ?_
        refine gf_X9_36 C rfl rfl dX9_begin_30 33 rfl ?_
        refine j_bipush (v := nI 8) C dX9_begin_33 (by decide) 35 rfl ?_
        refine j_iload_n C dX9_begin_35 rfl 36 rfl ?_
        refine n_imul C dX9_begin_36 37 rfl ?_
        refine j_iload_n C dX9_begin_37 rfl 38 rfl ?_
        refine j_iast C rfl (by omega) (by decide) dX9_begin_38 39 rfl ?_
        rw [gl_u2_up]
        refine j_aload_n C dX9_begin_39 rfl 40 rfl ?_
        refine gf_X9_36 C rfl rfl dX9_begin_40 43 rfl ?_
        refine j_bipush (v := nI 8) C dX9_begin_43 (by decide) 45 rfl ?_
        refine j_iload_n C dX9_begin_45 rfl 46 rfl ?_
        refine n_imul C dX9_begin_46 47 rfl ?_
        refine j_iconst (v := nI 2) C dX9_begin_47 (by decide) 48 rfl ?_
        refine n_iadd C dX9_begin_48 49 rfl ?_
        refine j_iload_n C dX9_begin_49 rfl 50 rfl ?_
        refine j_iast C rfl (by omega) (by decide) dX9_begin_50 51 rfl ?_
        rw [gl_u2_up]
        refine j_aload_n C dX9_begin_51 rfl 52 rfl ?_
        refine gf_X9_36 C rfl rfl dX9_begin_52 55 rfl ?_
        refine j_bipush (v := nI 8) C dX9_begin_55 (by decide) 57 rfl ?_
        refine j_iload_n C dX9_begin_57 rfl 58 rfl ?_
        refine n_imul C dX9_begin_58 59 rfl ?_
        refine j_iconst (v := nI 3) C dX9_begin_59 (by decide) 60 rfl ?_
        refine n_iadd C dX9_begin_60 61 rfl ?_
        refine j_iload C dX9_begin_61 rfl 63 rfl ?_
        refine j_iast C rfl (by omega) (by decide) dX9_begin_63 64 rfl ?_
        rw [gl_u2_up]
        refine j_aload_n C dX9_begin_64 rfl 65 rfl ?_
        refine gf_X9_36 C rfl rfl dX9_begin_65 68 rfl ?_
        refine j_bipush (v := nI 8) C dX9_begin_68 (by decide) 70 rfl ?_
        refine j_iload_n C dX9_begin_70 rfl 71 rfl ?_
        refine n_imul C dX9_begin_71 72 rfl ?_
        refine j_iconst (v := nI 4) C dX9_begin_72 (by decide) 73 rfl ?_
        refine n_iadd C dX9_begin_73 74 rfl ?_
        refine j_iload C dX9_begin_74 rfl 76 rfl ?_
        refine j_iast C rfl (by omega) (by decide) dX9_begin_76 77 rfl ?_
        rw [gl_u2_up]
        exact j_ret C hQ rfl (by omega) (by omega) dX9_begin_77
      · exact absurd c_7 (by omega)
    | succ k ih =>
      intro j hj
      refine j_iload C dX9_begin_3 rfl 5 rfl ?_
      refine j_bipush (v := nI 8) C dX9_begin_5 (by decide) 7 rfl ?_
      refine n_icmp_ge C 29 10 dX9_begin_7 (by decide) rfl (by omega) (by omega) (fun c_7 => ?_) (fun c_7 => ?_)
      · exact absurd c_7 (by omega)
      · refine j_aload_n C dX9_begin_10 rfl 11 rfl ?_
        refine gf_X9_36 C rfl rfl dX9_begin_11 14 rfl ?_
        refine j_bipush (v := nI 8) C dX9_begin_14 (by decide) 16 rfl ?_
        refine j_iload_n C dX9_begin_16 rfl 17 rfl ?_
        refine n_imul C dX9_begin_17 18 rfl ?_
        refine j_iload C dX9_begin_18 rfl 20 rfl ?_
        refine n_iadd C dX9_begin_20 21 rfl ?_
        refine j_iconst (v := nI 0) C dX9_begin_21 (by decide) 22 rfl ?_
        refine j_iast C rfl (by omega) (by decide) dX9_begin_22 23 rfl ?_
        refine n_iinc C dX9_begin_23 rfl (by rw [hnL]; decide) rfl 26 rfl ?_
        refine j_goto (tgt := 3) C dX9_begin_26 (by decide) ?_
        rw [gl_u2_up, gl_cpy_s (a := fun _ => nI 0)]
        exact ih (j + 1) (by omega)
  refine j_iconst (v := nI 0) C dX9_begin_0 (by decide) 1 rfl ?_
  refine j_istore C dX9_begin_1 (Nat.le_of_ble_eq_true rfl) (by rw [hnL]; decide) rfl 3 rfl ?_
  have := loop 8 0 rfl
  rw [gl_cpy_0, gl_up_self] at this
  exact this
set_option maxHeartbeats 4000000 in
set_option maxRecDepth 100000 in
theorem ct_X9_stp {l : Launch} {δ : gl_Del} {I : Nat → Nat → Int32} {L : Nat → Nat → Int64} {B : Nat → Nat → Bool} {s m rw_ nr q_ : Nat} (h : Nat) (hh : 1 ≤ h) (hs : s < 16) (hm : I 9 (8 * s + 1) = nI m) (hmb : m < 256) (hr : gl_msh rw_ = (0, nr)) (hr2 : rw_ ≠ 12) (hq : q_ + 8 ≤ nr) (hnr : nr < 2 ^ 31) : gl_Ct l δ yX9_step (ws_ yX9_step cX9_step 6 none) (gl_rm h 0 0) 0 0 [.ref 0, .int (nI s), .ref rw_, .int (nI q_)] (gl_mL, I, L, B, gl_mR) (gl_Qv fun S => S = (gl_mL, gl_u2 (va_up I 12 (va_cpy (fun t => I rw_ (q_ + t)) (I 12) 0 (8 * (256 * s + m)) 8)) 9 (8 * s + 1) (nI (m + 1)), L, B, gl_mR)) := by
  refine gl_of (by decide) (Nat.le_of_ble_eq_true rfl) rfl ?_
  intro κ C hQ hlκ hδκ hnL hini
  change gl_Cx κ RX9 _ _ _ at C
  have loop : ∀ k j : Nat, j + k = 8 → gl_J κ 0 0 (gl_mL, va_up I 12 (va_cpy (fun t => I rw_ (q_ + t)) (I 12) 0 (8 * (256 * s + m)) j), L, B, gl_mR) 25 [some (.ref 0), some (.int (nI s)), some (.ref rw_), some (.int (nI q_)), some (.int (nI m)), some (.int (nI j))] [] := by
    intro k
    induction k with
    | zero =>
      intro j hj
      have hjN : j = 8 := by omega
      subst hjN
      refine j_iload C dX9_step_25 rfl 27 rfl ?_
      refine j_bipush (v := nI 8) C dX9_step_27 (by decide) 29 rfl ?_
      refine n_icmp_ge C 63 32 dX9_step_29 (by decide) rfl (by omega) (by omega) (fun c_29 => ?_) (fun c_29 => ?_)
      · refine j_aload_n C dX9_step_63 rfl 64 rfl ?_
        refine gf_X9_36 C rfl rfl dX9_step_64 67 rfl ?_
        refine j_bipush (v := nI 8) C dX9_step_67 (by decide) 69 rfl ?_
        refine j_iload_n C dX9_step_69 rfl 70 rfl ?_
        refine n_imul C dX9_step_70 71 rfl ?_
        refine j_iconst (v := nI 1) C dX9_step_71 (by decide) 72 rfl ?_
        refine n_iadd C dX9_step_72 73 rfl ?_
        refine j_dup2 C dX9_step_73 rfl rfl 74 rfl ?_
        refine j_iald C rfl (by omega) (by decide) dX9_step_74 75 rfl ?_
        rw [gl_up_ne (show (9 : Nat) ≠ 12 by decide), hm]
        refine j_iconst (v := nI 1) C dX9_step_75 (by decide) 76 rfl ?_
        refine n_iadd C dX9_step_76 77 rfl ?_
        refine j_iast C rfl (by omega) (by decide) dX9_step_77 78 rfl ?_
        exact j_ret C hQ rfl (by omega) (by omega) dX9_step_78
      · exact absurd c_29 (by omega)
    | succ k ih =>
      intro j hj
      refine j_iload C dX9_step_25 rfl 27 rfl ?_
      refine j_bipush (v := nI 8) C dX9_step_27 (by decide) 29 rfl ?_
      refine n_icmp_ge C 63 32 dX9_step_29 (by decide) rfl (by omega) (by omega) (fun c_29 => ?_) (fun c_29 => ?_)
      · exact absurd c_29 (by omega)
      · refine j_aload_n C dX9_step_32 rfl 33 rfl ?_
        refine gf_X9_46 C rfl rfl dX9_step_33 36 rfl ?_
        refine j_bipush (v := nI 8) C dX9_step_36 (by decide) 38 rfl ?_
        refine j_sipush (v := nI 256) C dX9_step_38 (by decide) 41 rfl ?_
        refine j_iload_n C dX9_step_41 rfl 42 rfl ?_
        refine n_imul C dX9_step_42 43 rfl ?_
        refine j_iload C dX9_step_43 rfl 45 rfl ?_
        refine n_iadd C dX9_step_45 46 rfl ?_
        refine n_imul C dX9_step_46 47 rfl ?_
        refine j_iload C dX9_step_47 rfl 49 rfl ?_
        refine n_iadd C dX9_step_49 50 rfl ?_
        refine j_aload_n C dX9_step_50 rfl 51 rfl ?_
        refine j_iload_n C dX9_step_51 rfl 52 rfl ?_
        refine j_iload C dX9_step_52 rfl 54 rfl ?_
        refine n_iadd C dX9_step_54 55 rfl ?_
        refine j_iald C hr (by omega) hnr dX9_step_55 56 rfl ?_
        rw [gl_up_ne hr2]
        refine j_iast C rfl (by omega) (by decide) dX9_step_56 57 rfl ?_
        refine n_iinc C dX9_step_57 rfl (by rw [hnL]; decide) rfl 60 rfl ?_
        refine j_goto (tgt := 25) C dX9_step_60 (by decide) ?_
        rw [gl_u2_up, gl_cpy_s (a := (fun t => I rw_ (q_ + t)))]
        exact ih (j + 1) (by omega)
  refine j_aload_n C dX9_step_0 rfl 1 rfl ?_
  refine gf_X9_36 C rfl rfl dX9_step_1 4 rfl ?_
  refine j_bipush (v := nI 8) C dX9_step_4 (by decide) 6 rfl ?_
  refine j_iload_n C dX9_step_6 rfl 7 rfl ?_
  refine n_imul C dX9_step_7 8 rfl ?_
  refine j_iconst (v := nI 1) C dX9_step_8 (by decide) 9 rfl ?_
  refine n_iadd C dX9_step_9 10 rfl ?_
  refine j_iald C rfl (by omega) (by decide) dX9_step_10 11 rfl ?_
  rw [hm]
  refine j_istore C dX9_step_11 (Nat.le_of_ble_eq_true rfl) (by rw [hnL]; decide) rfl 13 rfl ?_
  refine j_iload C dX9_step_13 rfl 15 rfl ?_
  refine j_sipush (v := nI 256) C dX9_step_15 (by decide) 18 rfl ?_
  refine n_icmp_lt C 22 21 dX9_step_18 (by decide) rfl (by omega) (by omega) (fun c_18 => ?_) (fun c_18 => ?_)
  · refine j_iconst (v := nI 0) C dX9_step_22 (by decide) 23 rfl ?_
    refine j_istore C dX9_step_23 (Nat.le_of_ble_eq_true rfl) (by rw [hnL]; decide) rfl 25 rfl ?_
    have := loop 8 0 rfl
    rw [gl_cpy_0, gl_up_self] at this
    exact this
  · exact absurd c_18 (by omega)
/-- a slot, a step of it, a place of that -/
def gl_is (I : Nat → Nat → Int32) (sm : Nat → Nat) (x s j : Int32) : Bool := gl_in x 16 && (gl_in s (sm x.toNatClampNeg) && gl_in j 8)
theorem gl_is_iff {I : Nat → Nat → Int32} {sm : Nat → Nat} (hsm : ∀ k, k < 16 → sm k ≤ 256) {x s j : Int32} : gl_is I sm x s j = true ↔ ∃ a b c, a < 16 ∧ b < sm a ∧ c < 8 ∧ x = nI a ∧ s = nI b ∧ j = nI c := by
  unfold gl_is
  rw [Bool.and_eq_true, Bool.and_eq_true, gl_in_iff (by decide), gl_in_iff (n := 8) (by decide)]
  constructor
  · rintro ⟨⟨a, ha, rfl⟩, h2, ⟨c, hc, rfl⟩⟩
    have := hsm a ha
    rw [nI_clamp (by omega)] at h2
    obtain ⟨b, hb, rfl⟩ := (gl_in_iff (by omega)).mp h2
    exact ⟨a, b, c, ha, hb, hc, rfl, rfl, rfl⟩
  · rintro ⟨a, b, c, ha, hb, hc, rfl, rfl, rfl⟩
    have := hsm a ha
    refine ⟨⟨a, ha, rfl⟩, ?_, ⟨c, hc, rfl⟩⟩
    rw [nI_clamp (by omega)]
    exact (gl_in_iff (by omega)).mpr ⟨b, hb, rfl⟩
set_option maxHeartbeats 4000000 in
set_option maxRecDepth 100000 in
theorem ct_X9_isStep {l : Launch} {δ : gl_Del} {I : Nat → Nat → Int32} {L : Nat → Nat → Int64} {B : Nat → Nat → Bool} {sm : Nat → Nat} {x s j : Int32} (h : Nat) (hh : 2 ≤ h) (hsm : ∀ k, k < 16 → I 9 (8 * k + 1) = nI (sm k) ∧ sm k ≤ 256) : gl_Ct l δ yX9_isStep (ws_ yX9_isStep cX9_isStep 4 ((some FieldType.boolean))) (gl_rm h 0 0) 0 0 [.ref 0, .int x, .int s, .int j] (gl_mL, I, L, B, gl_mR) (gl_Qi fun r S => r = b2i (gl_is I sm x s j) ∧ S = (gl_mL, I, L, B, gl_mR)) := by
  refine gl_of (by decide) (Nat.le_of_ble_eq_true rfl) rfl ?_
  intro κ C hQ hlκ hδκ hnL hini
  change gl_Cx κ RX9 _ _ _ at C
  refine j_aload_n C dX9_isStep_0 rfl 1 rfl ?_
  refine j_iload_n C dX9_isStep_1 rfl 2 rfl ?_
  refine j_ci C (cs_X9_292 C (ct_X9_isSlot (h - 1) (by omega)) rfl rfl (by omega) (by omega) (by omega) rfl (Nat.le_of_ble_eq_true rfl) dX9_isStep_2) 5 rfl ?_
  rintro _ _ ⟨rfl, rfl⟩
  refine b_if_eq C 41 8 dX9_isStep_5 (by decide) rfl (fun c_5 => ?_) (fun c_5 => ?_)
  · refine j_iconst (v := b2i false) C dX9_isStep_41 (by decide) 42 rfl ?_
    exact j_zret C hQ ⟨by rw [gl_is, c_5]; rfl, rfl⟩ (by omega) (by omega) dX9_isStep_42
  · obtain ⟨a, ha, rfl⟩ := (gl_in_iff (by decide)).mp c_5
    have hca : (nI a).toNatClampNeg = a := nI_clamp (by omega)
    have hsa := hsm a ha
    refine j_iload_n C dX9_isStep_8 rfl 9 rfl ?_
    refine j_if_lt C 41 12 dX9_isStep_9 (by decide) rfl (fun c_9 => ?_) (fun c_9 => ?_)
    · refine j_iconst (v := b2i false) C dX9_isStep_41 (by decide) 42 rfl ?_
      exact j_zret C hQ ⟨by rw [gl_is, c_5, gl_in_f1 c_9]; rfl, rfl⟩ (by omega) (by omega) dX9_isStep_42
    · refine j_iload_n C dX9_isStep_12 rfl 13 rfl ?_
      refine j_aload_n C dX9_isStep_13 rfl 14 rfl ?_
      refine gf_X9_36 C rfl rfl dX9_isStep_14 17 rfl ?_
      refine j_bipush (v := nI 8) C dX9_isStep_17 (by decide) 19 rfl ?_
      refine j_iload_n C dX9_isStep_19 rfl 20 rfl ?_
      refine n_imul C dX9_isStep_20 21 rfl ?_
      refine j_iconst (v := nI 1) C dX9_isStep_21 (by decide) 22 rfl ?_
      refine n_iadd C dX9_isStep_22 23 rfl ?_
      refine j_iald C rfl (by omega) (by decide) dX9_isStep_23 24 rfl ?_
      rw [hsa.1]
      refine j_icmp_ge C 41 27 dX9_isStep_24 (by decide) rfl (fun c_24 => ?_) (fun c_24 => ?_)
      · refine j_iconst (v := b2i false) C dX9_isStep_41 (by decide) 42 rfl ?_
        exact j_zret C hQ ⟨by rw [gl_is, c_5, hca, gl_in_f2 c_24]; rfl, rfl⟩ (by omega) (by omega) dX9_isStep_42
      · refine j_iload_n C dX9_isStep_27 rfl 28 rfl ?_
        refine j_if_lt C 41 31 dX9_isStep_28 (by decide) rfl (fun c_28 => ?_) (fun c_28 => ?_)
        · refine j_iconst (v := b2i false) C dX9_isStep_41 (by decide) 42 rfl ?_
          exact j_zret C hQ ⟨by rw [gl_is, c_5, gl_in_f1 c_28, Bool.and_false]; rfl, rfl⟩ (by omega) (by omega) dX9_isStep_42
        · refine j_iload_n C dX9_isStep_31 rfl 32 rfl ?_
          refine j_bipush (v := nI 8) C dX9_isStep_32 (by decide) 34 rfl ?_
          refine j_icmp_ge C 41 37 dX9_isStep_34 (by decide) rfl (fun c_34 => ?_) (fun c_34 => ?_)
          · refine j_iconst (v := b2i false) C dX9_isStep_41 (by decide) 42 rfl ?_
            exact j_zret C hQ ⟨by rw [gl_is, c_5, gl_in_f2 c_34, Bool.and_false]; rfl, rfl⟩ (by omega) (by omega) dX9_isStep_42
          · refine j_iconst (v := b2i true) C dX9_isStep_37 (by decide) 38 rfl ?_
            refine j_goto (tgt := 42) C dX9_isStep_38 (by decide) ?_
            exact j_zret C hQ ⟨by rw [gl_is, c_5, hca, gl_in_t c_9 c_24, gl_in_t c_28 c_34]; rfl, rfl⟩ (by omega) (by omega) dX9_isStep_42
def gl_step (I : Nat → Nat → Int32) (sm : Nat → Nat) (x s j : Int32) : Int32 := if gl_is I sm x s j = true then I 12 (8 * (256 * x.toNatClampNeg + s.toNatClampNeg) + j.toNatClampNeg) else nI 0
def gl_bend (I : Nat → Nat → Int32) (L : Nat → Nat → Int64) (B : Nat → Nat → Bool) (sm : Nat → Nat) (x s j mk : Int32) : Int32 × gl_Sto := if gl_is I sm x s j = true then (b2i true, (gl_mL, gl_u2 I 12 (8 * (256 * x.toNatClampNeg + s.toNatClampNeg) + j.toNatClampNeg) (I 12 (8 * (256 * x.toNatClampNeg + s.toNatClampNeg) + j.toNatClampNeg) ^^^ mk), L, B, gl_mR)) else (b2i false, (gl_mL, I, L, B, gl_mR))
def gl_drop (I : Nat → Nat → Int32) (L : Nat → Nat → Int64) (B : Nat → Nat → Bool) (x : Int32) : Int32 × gl_Sto := if gl_in x 16 = true then (I 9 (8 * x.toNatClampNeg), (gl_mL, va_up I 9 (gl_bg (I 9) x.toNatClampNeg (nI 0) (nI 0) (nI 0) (nI 0)), L, B, gl_mR)) else (-1, (gl_mL, I, L, B, gl_mR))
set_option maxHeartbeats 4000000 in
set_option maxRecDepth 100000 in
theorem ct_X9_step {l : Launch} {δ : gl_Del} {I : Nat → Nat → Int32} {L : Nat → Nat → Int64} {B : Nat → Nat → Bool} {sm : Nat → Nat} {x s j : Int32} (h : Nat) (hh : 3 ≤ h) (hsm : ∀ k, k < 16 → I 9 (8 * k + 1) = nI (sm k) ∧ sm k ≤ 256) : gl_Ct l δ yX9_step_2 (ws_ yX9_step_2 cX9_step_2 4 ((some FieldType.int))) (gl_rm h 0 0) 0 0 [.ref 0, .int x, .int s, .int j] (gl_mL, I, L, B, gl_mR) (gl_Qi fun r S => r = gl_step I sm x s j ∧ S = (gl_mL, I, L, B, gl_mR)) := by
  refine gl_of (by decide) (Nat.le_of_ble_eq_true rfl) rfl ?_
  intro κ C hQ hlκ hδκ hnL hini
  change gl_Cx κ RX9 _ _ _ at C
  refine j_aload_n C dX9_step_2_0 rfl 1 rfl ?_
  refine j_iload_n C dX9_step_2_1 rfl 2 rfl ?_
  refine j_iload_n C dX9_step_2_2 rfl 3 rfl ?_
  refine j_iload_n C dX9_step_2_3 rfl 4 rfl ?_
  refine j_ci C (cs_X9_309 C (ct_X9_isStep (h - 1) (by omega) hsm) rfl rfl (by omega) (by omega) (by omega) rfl (Nat.le_of_ble_eq_true rfl) dX9_step_2_4) 7 rfl ?_
  rintro _ _ ⟨rfl, rfl⟩
  refine b_if_eq C 30 10 dX9_step_2_7 (by decide) rfl (fun c_7 => ?_) (fun c_7 => ?_)
  · refine j_iconst (v := nI 0) C dX9_step_2_30 (by decide) 31 rfl ?_
    exact j_iret C hQ ⟨by rw [gl_step, if_neg (by rw [c_7]; decide)], rfl⟩ (by omega) (by omega) dX9_step_2_31
  · obtain ⟨a, b, c, ha, hb, hc, rfl, rfl, rfl⟩ := (gl_is_iff (fun k hk => (hsm k hk).2)).mp c_7
    have hsa := hsm a ha
    have hca : (nI a).toNatClampNeg = a := nI_clamp (by omega)
    have hcb : (nI b).toNatClampNeg = b := nI_clamp (by omega)
    have hcc : (nI c).toNatClampNeg = c := nI_clamp (by omega)
    refine j_aload_n C dX9_step_2_10 rfl 11 rfl ?_
    refine gf_X9_46 C rfl rfl dX9_step_2_11 14 rfl ?_
    refine j_bipush (v := nI 8) C dX9_step_2_14 (by decide) 16 rfl ?_
    refine j_sipush (v := nI 256) C dX9_step_2_16 (by decide) 19 rfl ?_
    refine j_iload_n C dX9_step_2_19 rfl 20 rfl ?_
    refine n_imul C dX9_step_2_20 21 rfl ?_
    refine j_iload_n C dX9_step_2_21 rfl 22 rfl ?_
    refine n_iadd C dX9_step_2_22 23 rfl ?_
    refine n_imul C dX9_step_2_23 24 rfl ?_
    refine j_iload_n C dX9_step_2_24 rfl 25 rfl ?_
    refine n_iadd C dX9_step_2_25 26 rfl ?_
    refine j_iald C rfl (by omega) (by decide) dX9_step_2_26 27 rfl ?_
    refine j_goto (tgt := 31) C dX9_step_2_27 (by decide) ?_
    exact j_iret C hQ ⟨by rw [gl_step, if_pos c_7, hca, hcb, hcc], rfl⟩ (by omega) (by omega) dX9_step_2_31
set_option maxHeartbeats 4000000 in
set_option maxRecDepth 100000 in
theorem ct_X9_bend {l : Launch} {δ : gl_Del} {I : Nat → Nat → Int32} {L : Nat → Nat → Int64} {B : Nat → Nat → Bool} {sm : Nat → Nat} {x s j mk : Int32} (h : Nat) (hh : 3 ≤ h) (hsm : ∀ k, k < 16 → I 9 (8 * k + 1) = nI (sm k) ∧ sm k ≤ 256) : gl_Ct l δ yX9_bend (ws_ yX9_bend cX9_bend 5 ((some FieldType.boolean))) (gl_rm h 0 0) 0 0 [.ref 0, .int x, .int s, .int j, .int mk] (gl_mL, I, L, B, gl_mR) (gl_Qi fun r S => (r, S) = gl_bend I L B sm x s j mk) := by
  refine gl_of (by decide) (Nat.le_of_ble_eq_true rfl) rfl ?_
  intro κ C hQ hlκ hδκ hnL hini
  change gl_Cx κ RX9 _ _ _ at C
  refine j_aload_n C dX9_bend_0 rfl 1 rfl ?_
  refine j_iload_n C dX9_bend_1 rfl 2 rfl ?_
  refine j_iload_n C dX9_bend_2 rfl 3 rfl ?_
  refine j_iload_n C dX9_bend_3 rfl 4 rfl ?_
  refine j_ci C (cs_X9_309 C (ct_X9_isStep (h - 1) (by omega) hsm) rfl rfl (by omega) (by omega) (by omega) rfl (Nat.le_of_ble_eq_true rfl) dX9_bend_4) 7 rfl ?_
  rintro _ _ ⟨rfl, rfl⟩
  refine b_if_ne C 12 10 dX9_bend_7 (by decide) rfl (fun c_7 => ?_) (fun c_7 => ?_)
  · obtain ⟨a, b, c, ha, hb, hc, rfl, rfl, rfl⟩ := (gl_is_iff (fun k hk => (hsm k hk).2)).mp c_7
    have hsa := hsm a ha
    have hca : (nI a).toNatClampNeg = a := nI_clamp (by omega)
    have hcb : (nI b).toNatClampNeg = b := nI_clamp (by omega)
    have hcc : (nI c).toNatClampNeg = c := nI_clamp (by omega)
    refine j_aload_n C dX9_bend_12 rfl 13 rfl ?_
    refine gf_X9_46 C rfl rfl dX9_bend_13 16 rfl ?_
    refine j_bipush (v := nI 8) C dX9_bend_16 (by decide) 18 rfl ?_
    refine j_sipush (v := nI 256) C dX9_bend_18 (by decide) 21 rfl ?_
    refine j_iload_n C dX9_bend_21 rfl 22 rfl ?_
    refine n_imul C dX9_bend_22 23 rfl ?_
    refine j_iload_n C dX9_bend_23 rfl 24 rfl ?_
    refine n_iadd C dX9_bend_24 25 rfl ?_
    refine n_imul C dX9_bend_25 26 rfl ?_
    refine j_iload_n C dX9_bend_26 rfl 27 rfl ?_
    refine n_iadd C dX9_bend_27 28 rfl ?_
    refine j_dup2 C dX9_bend_28 rfl rfl 29 rfl ?_
    refine j_iald C rfl (by omega) (by decide) dX9_bend_29 30 rfl ?_
    refine j_iload C dX9_bend_30 rfl 32 rfl ?_
    refine j_ixor C dX9_bend_32 33 rfl ?_
    refine j_iast C rfl (by omega) (by decide) dX9_bend_33 34 rfl ?_
    refine j_iconst (v := b2i true) C dX9_bend_34 (by decide) 35 rfl ?_
    exact j_zret C hQ (by rw [gl_bend, if_pos c_7, hca, hcb, hcc]) (by omega) (by omega) dX9_bend_35
  · refine j_iconst (v := b2i false) C dX9_bend_10 (by decide) 11 rfl ?_
    exact j_zret C hQ (by rw [gl_bend, if_neg (by rw [c_7]; decide)]) (by omega) (by omega) dX9_bend_11
set_option maxHeartbeats 4000000 in
set_option maxRecDepth 100000 in
theorem ct_X9_drop {l : Launch} {δ : gl_Del} {I : Nat → Nat → Int32} {L : Nat → Nat → Int64} {B : Nat → Nat → Bool} {x : Int32} (h : Nat) (hh : 2 ≤ h)  : gl_Ct l δ yX9_drop (ws_ yX9_drop cX9_drop 3 ((some FieldType.int))) (gl_rm h 0 0) 0 0 [.ref 0, .int x] (gl_mL, I, L, B, gl_mR) (gl_Qi fun r S => (r, S) = gl_drop I L B x) := by
  refine gl_of (by decide) (Nat.le_of_ble_eq_true rfl) rfl ?_
  intro κ C hQ hlκ hδκ hnL hini
  change gl_Cx κ RX9 _ _ _ at C
  refine j_aload_n C dX9_drop_0 rfl 1 rfl ?_
  refine j_iload_n C dX9_drop_1 rfl 2 rfl ?_
  refine j_ci C (cs_X9_292 C (ct_X9_isSlot (h - 1) (by omega)) rfl rfl (by omega) (by omega) (by omega) rfl (Nat.le_of_ble_eq_true rfl) dX9_drop_2) 5 rfl ?_
  rintro _ _ ⟨rfl, rfl⟩
  refine b_if_ne C 10 8 dX9_drop_5 (by decide) rfl (fun c_5 => ?_) (fun c_5 => ?_)
  · obtain ⟨a, ha, rfl⟩ := (gl_in_iff (by decide)).mp c_5
    have hca : (nI a).toNatClampNeg = a := nI_clamp (by omega)
    refine j_aload_n C dX9_drop_10 rfl 11 rfl ?_
    refine gf_X9_36 C rfl rfl dX9_drop_11 14 rfl ?_
    refine j_bipush (v := nI 8) C dX9_drop_14 (by decide) 16 rfl ?_
    refine j_iload_n C dX9_drop_16 rfl 17 rfl ?_
    refine n_imul C dX9_drop_17 18 rfl ?_
    refine j_iald C rfl (by omega) (by decide) dX9_drop_18 19 rfl ?_
    refine j_istore_n C dX9_drop_19 (Nat.le_of_ble_eq_true rfl) (by rw [hnL]; decide) rfl 20 rfl ?_
    refine j_aload_n C dX9_drop_20 rfl 21 rfl ?_
    refine j_iload_n C dX9_drop_21 rfl 22 rfl ?_
    refine j_iconst (v := nI 0) C dX9_drop_22 (by decide) 23 rfl ?_
    refine j_iconst (v := nI 0) C dX9_drop_23 (by decide) 24 rfl ?_
    refine j_iconst (v := nI 0) C dX9_drop_24 (by decide) 25 rfl ?_
    refine j_iconst (v := nI 0) C dX9_drop_25 (by decide) 26 rfl ?_
    refine j_cv C (cs_X9_295 C (ct_X9_begin (h - 1) (by omega) ha) rfl rfl (by omega) (by omega) (by omega) rfl (Nat.le_of_ble_eq_true rfl) dX9_drop_26) 29 rfl ?_
    rintro _ rfl
    refine j_iload_n C dX9_drop_29 rfl 30 rfl ?_
    exact j_iret C hQ (by rw [gl_drop, if_pos c_5, hca]) (by omega) (by omega) dX9_drop_30
  · refine j_iconst (v := -1) C dX9_drop_8 (by decide) 9 rfl ?_
    exact j_iret C hQ (by rw [gl_drop, if_neg (by rw [c_5]; decide)]) (by omega) (by omega) dX9_drop_9
