/-! MODULE Mixer: contracts of GlassLog$Mixer. mx: its label, ma: its row's (by gen21.py) -/
set_option maxRecDepth 100000
/-- a mixer and its row -/
def gl_MX (Λ : gl_Lay) (R : Nat → Nat → Option Nat) (mx ma : Nat) : Prop := Λ.2 mx = (14, 0) ∧ Λ.2 ma = (0, 8) ∧ R mx 0 = some ma ∧ ma ≠ mx
set_option maxHeartbeats 4000000 in
set_option maxRecDepth 100000 in
theorem ct_X6_turn {l : Launch} {δ : gl_Del} {Λ : gl_Lay} {I : Nat → Nat → Int32} {L : Nat → Nat → Int64} {B : Nat → Nat → Bool} {R : Nat → Nat → Option Nat} {mx ma : Nat} (h : Nat) (hh : 1 ≤ h) (hX : gl_MX Λ R mx ma) : gl_Ct l δ yX6_turn (ws_ yX6_turn cX6_turn 4 none) (gl_rm h 0 0) 0 0 [.ref mx] (Λ, I, L, B, R) (gl_Qv fun S => S = (Λ, va_up I ma (gl_turn (I ma)), L, B, R)) := by
  refine gl_of (by decide) (Nat.le_of_ble_eq_true rfl) rfl ?_
  intro κ C hQ hlκ hδκ hnL hini
  change gl_Cx κ RX6 _ _ _ at C
  have outer : ∀ n r : Nat, r + n = 6 → ∀ x2 x3 : Option Value, gl_J κ 0 0 (Λ, va_up I ma (gl_to r (I ma)), L, B, R) 2 [some (.ref mx), some (.int (nI r)), x2, x3] [] := by
    intro n
    induction n with
    | zero =>
      intro r hr x2 x3
      obtain rfl : r = 6 := by omega
      refine j_iload_n C dX6_turn_2 rfl 3 rfl ?_
      refine j_bipush (v := nI 6) C dX6_turn_3 (by decide) 5 rfl ?_
      refine n_icmp_ge C 76 8 dX6_turn_5 (by decide) rfl (by omega) (by omega) (fun c_5 => ?_) (fun c_5 => ?_)
      · exact j_ret C hQ rfl (by omega) (by omega) dX6_turn_76
      · exact absurd c_5 (by omega)
    | succ n ih =>
      intro r hr x2 x3
      have inner : ∀ k j : Nat, j + k = 8 → ∀ x3 : Option Value, gl_J κ 0 0 (Λ, va_up I ma (gl_ti j (gl_to r (I ma))), L, B, R) 10 [some (.ref mx), some (.int (nI r)), some (.int (nI j)), x3] [] := by
        intro k
        induction k with
        | zero =>
          intro j hj x3
          have hjN : j = 8 := by omega
          subst hjN
          refine j_iload_n C dX6_turn_10 rfl 11 rfl ?_
          refine j_bipush (v := nI 8) C dX6_turn_11 (by decide) 13 rfl ?_
          refine n_icmp_ge C 70 16 dX6_turn_13 (by decide) rfl (by omega) (by omega) (fun c_13 => ?_) (fun c_13 => ?_)
          · refine n_iinc C dX6_turn_70 rfl (by rw [hnL]; decide) rfl 73 rfl ?_
            refine j_goto (tgt := 2) C dX6_turn_73 (by decide) ?_
            exact ih (r + 1) (by omega) _ _
          · exact absurd c_13 (by omega)
        | succ k ih =>
          intro j hj x3
          refine j_iload_n C dX6_turn_10 rfl 11 rfl ?_
          refine j_bipush (v := nI 8) C dX6_turn_11 (by decide) 13 rfl ?_
          refine n_icmp_ge C 70 16 dX6_turn_13 (by decide) rfl (by omega) (by omega) (fun c_13 => ?_) (fun c_13 => ?_)
          · exact absurd c_13 (by omega)
          · refine j_aload_n C dX6_turn_16 rfl 17 rfl ?_
            refine gf_X6_9 C hX.1 hX.2.2.1 dX6_turn_17 20 rfl ?_
            refine j_iload_n C dX6_turn_20 rfl 21 rfl ?_
            refine j_iald C hX.2.1 (by omega) (by decide) dX6_turn_21 22 rfl ?_
            rw [gl_up_eq]
            refine j_aload_n C dX6_turn_22 rfl 23 rfl ?_
            refine gf_X6_9 C hX.1 hX.2.2.1 dX6_turn_23 26 rfl ?_
            refine j_iload_n C dX6_turn_26 rfl 27 rfl ?_
            refine j_iconst (v := nI 1) C dX6_turn_27 (by decide) 28 rfl ?_
            refine n_iadd C dX6_turn_28 29 rfl ?_
            refine j_bipush (v := nI 8) C dX6_turn_29 (by decide) 31 rfl ?_
            refine n_irem C dX6_turn_31 (by omega) (by omega) (by omega) 32 rfl ?_
            refine j_iald C hX.2.1 (by omega) (by decide) dX6_turn_32 33 rfl ?_
            rw [gl_up_eq]
            refine j_iadd C dX6_turn_33 34 rfl ?_
            refine j_istore_n C dX6_turn_34 (Nat.le_of_ble_eq_true rfl) (by rw [hnL]; decide) rfl 35 rfl ?_
            refine j_iload_n C dX6_turn_35 rfl 36 rfl ?_
            refine j_bipush (v := nI 7) C dX6_turn_36 (by decide) 38 rfl ?_
            refine j_ishl C dX6_turn_38 39 rfl ?_
            refine j_iload_n C dX6_turn_39 rfl 40 rfl ?_
            refine j_bipush (v := nI 25) C dX6_turn_40 (by decide) 42 rfl ?_
            refine j_iushr C dX6_turn_42 43 rfl ?_
            refine j_ior C dX6_turn_43 44 rfl ?_
            refine j_istore_n C dX6_turn_44 (Nat.le_of_ble_eq_true rfl) (by rw [hnL]; decide) rfl 45 rfl ?_
            refine j_aload_n C dX6_turn_45 rfl 46 rfl ?_
            refine gf_X6_9 C hX.1 hX.2.2.1 dX6_turn_46 49 rfl ?_
            refine j_iload_n C dX6_turn_49 rfl 50 rfl ?_
            refine j_iload_n C dX6_turn_50 rfl 51 rfl ?_
            refine j_aload_n C dX6_turn_51 rfl 52 rfl ?_
            refine gf_X6_9 C hX.1 hX.2.2.1 dX6_turn_52 55 rfl ?_
            refine j_iload_n C dX6_turn_55 rfl 56 rfl ?_
            refine j_iconst (v := nI 3) C dX6_turn_56 (by decide) 57 rfl ?_
            refine n_iadd C dX6_turn_57 58 rfl ?_
            refine j_bipush (v := nI 8) C dX6_turn_58 (by decide) 60 rfl ?_
            refine n_irem C dX6_turn_60 (by omega) (by omega) (by omega) 61 rfl ?_
            refine j_iald C hX.2.1 (by omega) (by decide) dX6_turn_61 62 rfl ?_
            rw [gl_up_eq]
            refine j_ixor C dX6_turn_62 63 rfl ?_
            refine j_iast C hX.2.1 (by omega) (by decide) dX6_turn_63 64 rfl ?_
            refine n_iinc C dX6_turn_64 rfl (by rw [hnL]; decide) rfl 67 rfl ?_
            refine j_goto (tgt := 10) C dX6_turn_67 (by decide) ?_
            rw [gl_u2_up]
            exact ih (j + 1) (by omega) _
      refine j_iload_n C dX6_turn_2 rfl 3 rfl ?_
      refine j_bipush (v := nI 6) C dX6_turn_3 (by decide) 5 rfl ?_
      refine n_icmp_ge C 76 8 dX6_turn_5 (by decide) rfl (by omega) (by omega) (fun c_5 => ?_) (fun c_5 => ?_)
      · exact absurd c_5 (by omega)
      · refine j_iconst (v := nI 0) C dX6_turn_8 (by decide) 9 rfl ?_
        refine j_istore_n C dX6_turn_9 (Nat.le_of_ble_eq_true rfl) (by rw [hnL]; decide) rfl 10 rfl ?_
        exact inner 8 0 rfl _
  refine j_iconst (v := nI 0) C dX6_turn_0 (by decide) 1 rfl ?_
  refine j_istore_n C dX6_turn_1 (Nat.le_of_ble_eq_true rfl) (by rw [hnL]; decide) rfl 2 rfl ?_
  have := outer 6 0 rfl none none
  rw [show gl_to 0 (I ma) = I ma from rfl, gl_up_self] at this
  exact this
set_option maxHeartbeats 4000000 in
set_option maxRecDepth 100000 in
theorem ct_X6_begin {l : Launch} {δ : gl_Del} {Λ : gl_Lay} {I : Nat → Nat → Int32} {L : Nat → Nat → Int64} {B : Nat → Nat → Bool} {R : Nat → Nat → Option Nat} {mx ma : Nat} (h : Nat) (hh : 1 ≤ h) (hX : gl_MX Λ R mx ma) : gl_Ct l δ yX6_begin (ws_ yX6_begin cX6_begin 2 none) (gl_rm h 0 0) 0 0 [.ref mx] (Λ, I, L, B, R) (gl_Qv fun S => S = (Λ, gl_m1 I mx ma gl_i0 0, L, B, R)) := by
  refine gl_of (by decide) (Nat.le_of_ble_eq_true rfl) rfl ?_
  intro κ C hQ hlκ hδκ hnL hini
  change gl_Cx κ RX6 _ _ _ at C
  have loop : ∀ k j : Nat, j + k = 8 → gl_J κ 0 0 (Λ, va_up I ma (gl_bi j (I ma)), L, B, R) 2 [some (.ref mx), some (.int (nI j))] [] := by
    intro k
    induction k with
    | zero =>
      intro j hj
      have hjN : j = 8 := by omega
      subst hjN
      refine j_iload_n C dX6_begin_2 rfl 3 rfl ?_
      refine j_bipush (v := nI 8) C dX6_begin_3 (by decide) 5 rfl ?_
      refine n_icmp_ge C 26 8 dX6_begin_5 (by decide) rfl (by omega) (by omega) (fun c_5 => ?_) (fun c_5 => ?_)
      · refine j_cong (r' := gl_i0) hX.2.1 (fun j hj => by simp [gl_bi, hj]) ?_
        refine j_aload_n C dX6_begin_26 rfl 27 rfl ?_
        refine j_iconst (v := nI 0) C dX6_begin_27 (by decide) 28 rfl ?_
        refine pf_X6_16 C hX.1 dX6_begin_28 31 rfl ?_
        exact j_ret C hQ rfl (by omega) (by omega) dX6_begin_31
      · exact absurd c_5 (by omega)
    | succ k ih =>
      intro j hj
      refine j_iload_n C dX6_begin_2 rfl 3 rfl ?_
      refine j_bipush (v := nI 8) C dX6_begin_3 (by decide) 5 rfl ?_
      refine n_icmp_ge C 26 8 dX6_begin_5 (by decide) rfl (by omega) (by omega) (fun c_5 => ?_) (fun c_5 => ?_)
      · exact absurd c_5 (by omega)
      · refine j_aload_n C dX6_begin_8 rfl 9 rfl ?_
        refine gf_X6_9 C hX.1 hX.2.2.1 dX6_begin_9 12 rfl ?_
        refine j_iload_n C dX6_begin_12 rfl 13 rfl ?_
        refine j_iload_n C dX6_begin_13 rfl 14 rfl ?_
        refine j_iconst (v := nI 1) C dX6_begin_14 (by decide) 15 rfl ?_
        refine n_iadd C dX6_begin_15 16 rfl ?_
        refine j_ldc C q416 dX6_begin_16 18 rfl ?_
        refine j_imul C dX6_begin_18 19 rfl ?_
        refine j_iast C hX.2.1 (by omega) (by decide) dX6_begin_19 20 rfl ?_
        refine n_iinc C dX6_begin_20 rfl (by rw [hnL]; decide) rfl 23 rfl ?_
        refine j_goto (tgt := 2) C dX6_begin_23 (by decide) ?_
        rw [gl_u2_up, show nI (j + 1) * 1640531527 = gl_i0 j from rfl, gl_bi_s]
        exact ih (j + 1) (by omega)
  refine j_iconst (v := nI 0) C dX6_begin_0 (by decide) 1 rfl ?_
  refine j_istore_n C dX6_begin_1 (Nat.le_of_ble_eq_true rfl) (by rw [hnL]; decide) rfl 2 rfl ?_
  have := loop 8 0 rfl
  rw [show gl_bi 0 (I ma) = I ma by funext k; simp [gl_bi], gl_up_self] at this
  exact this
set_option maxHeartbeats 4000000 in
set_option maxRecDepth 100000 in
theorem ct_X6_put {l : Launch} {δ : gl_Del} {Λ : gl_Lay} {I : Nat → Nat → Int32} {L : Nat → Nat → Int64} {B : Nat → Nat → Bool} {R : Nat → Nat → Option Nat} {mx ma : Nat} {w : Int32} {n : Nat} (h : Nat) (hh : 2 ≤ h) (hX : gl_MX Λ R mx ma) (hn : I mx 1 = nI n) (hb : n < 1000) : gl_Ct l δ yX6_put (ws_ yX6_put cX6_put 2 none) (gl_rm h 0 0) 0 0 [.ref mx, .int w] (Λ, I, L, B, R) (gl_Qv fun S => S = (Λ, gl_m1 I mx ma (gl_pt (I ma) n w) (n + 1), L, B, R)) := by
  refine gl_of (by decide) (Nat.le_of_ble_eq_true rfl) rfl ?_
  intro κ C hQ hlκ hδκ hnL hini
  change gl_Cx κ RX6 _ _ _ at C
  refine j_aload_n C dX6_put_0 rfl 1 rfl ?_
  refine gf_X6_9 C hX.1 hX.2.2.1 dX6_put_1 4 rfl ?_
  refine j_aload_n C dX6_put_4 rfl 5 rfl ?_
  refine gf_X6_16 C hX.1 dX6_put_5 8 rfl ?_
  rw [hn]
  refine j_bipush (v := nI 8) C dX6_put_8 (by decide) 10 rfl ?_
  refine n_irem C dX6_put_10 (by omega) (by omega) (by omega) 11 rfl ?_
  refine j_dup2 C dX6_put_11 rfl rfl 12 rfl ?_
  refine j_iald C hX.2.1 (by omega) (by decide) dX6_put_12 13 rfl ?_
  refine j_iload_n C dX6_put_13 rfl 14 rfl ?_
  refine j_ixor C dX6_put_14 15 rfl ?_
  refine j_iast C hX.2.1 (by omega) (by decide) dX6_put_15 16 rfl ?_
  refine j_aload_n C dX6_put_16 rfl 17 rfl ?_
  refine j_dup C dX6_put_17 rfl 18 rfl ?_
  refine gf_X6_16 C hX.1 dX6_put_18 21 rfl ?_
  rw [show gl_u2 I ma (n % 8) (I ma (n % 8) ^^^ w) mx 1 = nI n by rw [gl_u2_ne (Ne.symm hX.2.2.2), hn]]
  refine j_iconst (v := nI 1) C dX6_put_21 (by decide) 22 rfl ?_
  refine n_iadd C dX6_put_22 23 rfl ?_
  refine pf_X6_16 C hX.1 dX6_put_23 26 rfl ?_
  rw [show gl_u2 (gl_u2 I ma (n % 8) (I ma (n % 8) ^^^ w)) mx 1 (nI (n + 1)) = gl_m1 I mx ma (va_up (I ma) (n % 8) (I ma (n % 8) ^^^ w)) (n + 1) from rfl]
  refine j_aload_n C dX6_put_26 rfl 27 rfl ?_
  refine gf_X6_16 C hX.1 dX6_put_27 30 rfl ?_
  rw [gl_m1_n]
  refine j_bipush (v := nI 8) C dX6_put_30 (by decide) 32 rfl ?_
  refine n_irem C dX6_put_32 (by omega) (by omega) (by omega) 33 rfl ?_
  refine n_if_ne C 40 36 dX6_put_33 (by decide) rfl (by omega) (fun c_33 => ?_) (fun c_33 => ?_)
  · exact j_ret C hQ (by rw [gl_pt, if_neg c_33]) (by omega) (by omega) dX6_put_40
  · refine j_aload_n C dX6_put_36 rfl 37 rfl ?_
    refine j_cv C (cs_X6_20 C (ct_X6_turn (h - 1) (by omega) hX) hX.1 rfl (by omega) (by omega) (by omega) rfl (Nat.le_of_ble_eq_true rfl) dX6_put_37) 40 rfl ?_
    rintro _ rfl
    rw [gl_m1_ma hX.2.2.2, gl_m1_r hX.2.2.2]
    exact j_ret C hQ (by rw [gl_pt, if_pos c_33]) (by omega) (by omega) dX6_put_40
set_option maxHeartbeats 4000000 in
set_option maxRecDepth 100000 in
theorem ct_X6_put2 {l : Launch} {δ : gl_Del} {Λ : gl_Lay} {I : Nat → Nat → Int32} {L : Nat → Nat → Int64} {B : Nat → Nat → Bool} {R : Nat → Nat → Option Nat} {mx ma x nx fr : Nat} {n : Nat} (h : Nat) (hh : 3 ≤ h) (hX : gl_MX Λ R mx ma) (hn : I mx 1 = nI n) (hb : n < 900) (hx : Λ.2 x = (0, nx)) (hxm : x ≠ ma) (hfr : fr + 8 ≤ nx) (hnx : nx < 2 ^ 31) : gl_Ct l δ yX6_put_2 (ws_ yX6_put_2 cX6_put_2 4 none) (gl_rm h 0 0) 0 0 [.ref mx, .ref x, .int (nI fr)] (Λ, I, L, B, R) (gl_Qv fun S => S = (Λ, gl_m1 I mx ma (gl_pts (I ma) n (fun t => I x (fr + t)) 8) (n + 8), L, B, R)) := by
  refine gl_of (by decide) (Nat.le_of_ble_eq_true rfl) rfl ?_
  intro κ C hQ hlκ hδκ hnL hini
  change gl_Cx κ RX6 _ _ _ at C
  have hxx : x ≠ mx := fun e => by rw [e, hX.1] at hx; cases hx
  have loop : ∀ k j : Nat, j + k = 8 → gl_J κ 0 0 (Λ, gl_m1 I mx ma (gl_pts (I ma) n (fun t => I x (fr + t)) j) (n + j), L, B, R) 2 [some (.ref mx), some (.ref x), some (.int (nI fr)), some (.int (nI j))] [] := by
    intro k
    induction k with
    | zero =>
      intro j hj
      have hjN : j = 8 := by omega
      subst hjN
      refine j_iload_n C dX6_put_2_2 rfl 3 rfl ?_
      refine j_bipush (v := nI 8) C dX6_put_2_3 (by decide) 5 rfl ?_
      refine n_icmp_ge C 23 8 dX6_put_2_5 (by decide) rfl (by omega) (by omega) (fun c_5 => ?_) (fun c_5 => ?_)
      · exact j_ret C hQ rfl (by omega) (by omega) dX6_put_2_23
      · exact absurd c_5 (by omega)
    | succ k ih =>
      intro j hj
      refine j_iload_n C dX6_put_2_2 rfl 3 rfl ?_
      refine j_bipush (v := nI 8) C dX6_put_2_3 (by decide) 5 rfl ?_
      refine n_icmp_ge C 23 8 dX6_put_2_5 (by decide) rfl (by omega) (by omega) (fun c_5 => ?_) (fun c_5 => ?_)
      · exact absurd c_5 (by omega)
      · refine j_aload_n C dX6_put_2_8 rfl 9 rfl ?_
        refine j_aload_n C dX6_put_2_9 rfl 10 rfl ?_
        refine j_iload_n C dX6_put_2_10 rfl 11 rfl ?_
        refine j_iload_n C dX6_put_2_11 rfl 12 rfl ?_
        refine n_iadd C dX6_put_2_12 13 rfl ?_
        refine j_iald C hx (by omega) hnx dX6_put_2_13 14 rfl ?_
        rw [gl_m1_o hxx hxm]
        refine j_cv C (cs_X6_23 C (ct_X6_put (n := n + j) (h - 1) (by omega) hX gl_m1_n (by omega)) hX.1 rfl (by omega) (by omega) (by omega) rfl (Nat.le_of_ble_eq_true rfl) dX6_put_2_14) 17 rfl ?_
        rintro _ rfl
        rw [gl_m1_ma hX.2.2.2, gl_m1_m1 hX.2.2.2]
        refine n_iinc C dX6_put_2_17 rfl (by rw [hnL]; decide) rfl 20 rfl ?_
        refine j_goto (tgt := 2) C dX6_put_2_20 (by decide) ?_
        exact ih (j + 1) (by omega)
  refine j_iconst (v := nI 0) C dX6_put_2_0 (by decide) 1 rfl ?_
  refine j_istore_n C dX6_put_2_1 (Nat.le_of_ble_eq_true rfl) (by rw [hnL]; decide) rfl 2 rfl ?_
  have := loop 8 0 rfl
  rw [show gl_pts (I ma) n (fun t => I x (fr + t)) 0 = I ma from rfl, Nat.add_zero, gl_m1_0 hn] at this
  exact this
set_option maxHeartbeats 4000000 in
set_option maxRecDepth 100000 in
theorem ct_X6_end {l : Launch} {δ : gl_Del} {Λ : gl_Lay} {I : Nat → Nat → Int32} {L : Nat → Nat → Int64} {B : Nat → Nat → Bool} {R : Nat → Nat → Option Nat} {mx ma to nt at_ : Nat} {n : Nat} (h : Nat) (hh : 2 ≤ h) (hX : gl_MX Λ R mx ma) (hn : I mx 1 = nI n) (hb : n < 1000) (ht : Λ.2 to = (0, nt)) (htm : to ≠ ma) (hat : at_ + 8 ≤ nt) (hnt : nt < 2 ^ 31) : gl_Ct l δ yX6_end (ws_ yX6_end cX6_end 4 none) (gl_rm h 0 0) 0 0 [.ref mx, .ref to, .int (nI at_)] (Λ, I, L, B, R) (gl_Qv fun S => S = (Λ, va_up (gl_m1 I mx ma (gl_e8 (I ma) n) n) to (va_cpy (gl_e8 (I ma) n) (I to) 0 at_ 8), L, B, R)) := by
  refine gl_of (by decide) (Nat.le_of_ble_eq_true rfl) rfl ?_
  intro κ C hQ hlκ hδκ hnL hini
  change gl_Cx κ RX6 _ _ _ at C
  have htx : to ≠ mx := fun e => by rw [e, hX.1] at ht; cases ht
  have fin : ∀ r : Nat → Int32, r = gl_e8 (I ma) n → gl_J κ 0 0 (Λ, gl_m1 I mx ma r n, L, B, R) 31 [some (.ref mx), some (.ref to), some (.int (nI at_)), none] [] := by
    intro r hr
    have loop : ∀ k j : Nat, j + k = 8 → gl_J κ 0 0 (Λ, va_up (gl_m1 I mx ma r n) to (va_cpy r (I to) 0 at_ j), L, B, R) 33 [some (.ref mx), some (.ref to), some (.int (nI at_)), some (.int (nI j))] [] := by
      intro k
      induction k with
      | zero =>
        intro j hj
        have hjN : j = 8 := by omega
        subst hjN
        refine j_iload_n C dX6_end_33 rfl 34 rfl ?_
        refine j_bipush (v := nI 8) C dX6_end_34 (by decide) 36 rfl ?_
        refine n_icmp_ge C 56 39 dX6_end_36 (by decide) rfl (by omega) (by omega) (fun c_36 => ?_) (fun c_36 => ?_)
        · exact j_ret C hQ (by rw [hr]) (by omega) (by omega) dX6_end_56
        · exact absurd c_36 (by omega)
      | succ k ih =>
        intro j hj
        refine j_iload_n C dX6_end_33 rfl 34 rfl ?_
        refine j_bipush (v := nI 8) C dX6_end_34 (by decide) 36 rfl ?_
        refine n_icmp_ge C 56 39 dX6_end_36 (by decide) rfl (by omega) (by omega) (fun c_36 => ?_) (fun c_36 => ?_)
        · exact absurd c_36 (by omega)
        · refine j_aload_n C dX6_end_39 rfl 40 rfl ?_
          refine j_iload_n C dX6_end_40 rfl 41 rfl ?_
          refine j_iload_n C dX6_end_41 rfl 42 rfl ?_
          refine n_iadd C dX6_end_42 43 rfl ?_
          refine j_aload_n C dX6_end_43 rfl 44 rfl ?_
          refine gf_X6_9 C hX.1 hX.2.2.1 dX6_end_44 47 rfl ?_
          refine j_iload_n C dX6_end_47 rfl 48 rfl ?_
          refine j_iald C hX.2.1 (by omega) (by decide) dX6_end_48 49 rfl ?_
          rw [gl_up_ne (Ne.symm htm), gl_m1_ma hX.2.2.2]
          refine j_iast C ht (by omega) hnt dX6_end_49 50 rfl ?_
          refine n_iinc C dX6_end_50 rfl (by rw [hnL]; decide) rfl 53 rfl ?_
          refine j_goto (tgt := 33) C dX6_end_53 (by decide) ?_
          rw [gl_u2_up, gl_cpy_s]
          exact ih (j + 1) (by omega)
    refine j_iconst (v := nI 0) C dX6_end_31 (by decide) 32 rfl ?_
    refine j_istore_n C dX6_end_32 (Nat.le_of_ble_eq_true rfl) (by rw [hnL]; decide) rfl 33 rfl ?_
    have := loop 8 0 rfl
    rw [gl_cpy_0, show va_up (gl_m1 I mx ma r n) to (I to) = gl_m1 I mx ma r n by rw [← gl_m1_o (I := I) (n := n) (r := r) htx htm, gl_up_self]] at this
    exact this
  have mid : ∀ r : Nat → Int32, gl_turn (va_up r 0 (r 0 ^^^ nI n)) = gl_e8 (I ma) n → gl_J κ 0 0 (Λ, gl_m1 I mx ma r n, L, B, R) 14 [some (.ref mx), some (.ref to), some (.int (nI at_)), none] [] := by
    intro r hr
    refine j_aload_n C dX6_end_14 rfl 15 rfl ?_
    refine gf_X6_9 C hX.1 hX.2.2.1 dX6_end_15 18 rfl ?_
    refine j_iconst (v := nI 0) C dX6_end_18 (by decide) 19 rfl ?_
    refine j_dup2 C dX6_end_19 rfl rfl 20 rfl ?_
    refine j_iald C hX.2.1 (by omega) (by decide) dX6_end_20 21 rfl ?_
    rw [gl_m1_ma hX.2.2.2]
    refine j_aload_n C dX6_end_21 rfl 22 rfl ?_
    refine gf_X6_16 C hX.1 dX6_end_22 25 rfl ?_
    rw [gl_m1_n]
    refine j_ixor C dX6_end_25 26 rfl ?_
    refine j_iast C hX.2.1 (by omega) (by decide) dX6_end_26 27 rfl ?_
    rw [show gl_u2 (gl_m1 I mx ma r n) ma 0 (r 0 ^^^ nI n) = gl_m1 I mx ma (va_up r 0 (r 0 ^^^ nI n)) n by rw [gl_u2, gl_m1_ma hX.2.2.2, gl_m1_r hX.2.2.2]]
    refine j_aload_n C dX6_end_27 rfl 28 rfl ?_
    refine j_cv C (cs_X6_20 C (ct_X6_turn (h - 1) (by omega) hX) hX.1 rfl (by omega) (by omega) (by omega) rfl (Nat.le_of_ble_eq_true rfl) dX6_end_28) 31 rfl ?_
    rintro _ rfl
    rw [gl_m1_ma hX.2.2.2, gl_m1_r hX.2.2.2]
    exact fin _ hr
  refine j_aload_n C dX6_end_0 rfl 1 rfl ?_
  refine gf_X6_16 C hX.1 dX6_end_1 4 rfl ?_
  rw [hn]
  refine j_bipush (v := nI 8) C dX6_end_4 (by decide) 6 rfl ?_
  refine n_irem C dX6_end_6 (by omega) (by omega) (by omega) 7 rfl ?_
  refine n_if_eq C 14 10 dX6_end_7 (by decide) rfl (by omega) (fun c_7 => ?_) (fun c_7 => ?_)
  · have := mid (I ma) (by rw [gl_e8, if_pos c_7])
    rw [gl_m1_0 hn] at this
    exact this
  · refine j_aload_n C dX6_end_10 rfl 11 rfl ?_
    refine j_cv C (cs_X6_20 C (ct_X6_turn (h - 1) (by omega) hX) hX.1 rfl (by omega) (by omega) (by omega) rfl (Nat.le_of_ble_eq_true rfl) dX6_end_11) 14 rfl ?_
    rintro _ rfl
    have := mid (gl_turn (I ma)) (by rw [gl_e8, if_neg c_7])
    rw [show gl_m1 I mx ma (gl_turn (I ma)) n = va_up I ma (gl_turn (I ma)) by rw [← gl_m1_r (r := I ma) hX.2.2.2, gl_m1_0 hn]] at this
    exact this
