/-! MODULE Model, base and sums: the reference's labels (0 the object, 1.. its rows in the order of its fields), turn, mix, toRow, entrySum, join, wayOf, leaf, mark (by gen30.py) -/
set_option maxRecDepth 100000
def gl_mshl : List (Nat × Nat) := [(17, 0), (0, 24), (0, 2400), (2, 2400), (1, 2400), (1, 2400), (0, 600), (0, 600), (1, 600), (0, 128), (0, 640), (2, 640), (0, 32768), (0, 336), (1, 12), (0, 3360), (0, 40), (1, 8), (0, 3200), (0, 3200), (0, 24), (0, 2400), (2, 2400), (1, 2400), (1, 2400), (0, 600), (0, 600), (1, 600), (0, 128), (0, 640), (2, 640), (0, 32768), (0, 336), (1, 12), (0, 3360), (0, 40), (1, 8), (0, 3200), (0, 3200), (0, 24), (0, 8), (0, 256), (0, 64), (0, 64), (0, 512), (0, 8), (0, 8), (0, 400), (0, 400), (0, 3200), (0, 400), (0, 400), (0, 4160), (0, 28), (0, 8), (0, 8), (0, 8), (0, 8)]
def gl_mrl : List (Option Nat) := [some 1, none, some 2, some 3, some 4, some 5, some 6, some 7, some 8, some 9, some 10, some 11, some 12, some 13, some 14, some 15, none, some 16, some 17, some 18, some 19, none, some 20, none, some 21, some 22, some 23, some 24, some 25, some 26, some 27, some 28, some 29, some 30, some 31, some 32, some 33, some 34, none, some 35, some 36, some 37, some 38, some 39, some 40, some 41, some 42, some 43, some 44, none, some 45, some 46, some 47, some 48, some 49, some 50, some 51, none, some 52, some 53, some 54, some 55, none, none, some 56, some 57]
def gl_msh (c : Nat) : Nat × Nat := gl_mshl.getD c (0, 0)
def gl_mR (c k : Nat) : Option Nat := if c = 0 then gl_mrl.getD k none else none
def gl_mL : gl_Lay := (58, gl_msh)
set_option maxHeartbeats 4000000 in
set_option maxRecDepth 100000 in
theorem ct_X9_turn {l : Launch} {δ : gl_Del} {I : Nat → Nat → Int32} {L : Nat → Nat → Int64} {B : Nat → Nat → Bool} (h : Nat) (hh : 1 ≤ h)  : gl_Ct l δ yX9_turn (ws_ yX9_turn cX9_turn 4 none) (gl_rm h 0 0) 0 0 [.ref 0] (gl_mL, I, L, B, gl_mR) (gl_Qv fun S => S = (gl_mL, va_up I 40 (gl_turn (I 40)), L, B, gl_mR)) := by
  refine gl_of (by decide) (Nat.le_of_ble_eq_true rfl) rfl ?_
  intro κ C hQ hlκ hδκ hnL hini
  change gl_Cx κ RX9 _ _ _ at C
  have outer : ∀ n r : Nat, r + n = 6 → ∀ x2 x3 : Option Value, gl_J κ 0 0 (gl_mL, va_up I 40 (gl_to r (I 40)), L, B, gl_mR) 2 [some (.ref 0), some (.int (nI r)), x2, x3] [] := by
    intro n
    induction n with
    | zero =>
      intro r hr x2 x3
      obtain rfl : r = 6 := by omega
      refine j_iload_n C dX9_turn_2 rfl 3 rfl ?_
      refine j_bipush (v := nI 6) C dX9_turn_3 (by decide) 5 rfl ?_
      refine n_icmp_ge C 74 8 dX9_turn_5 (by decide) rfl (by omega) (by omega) (fun c_5 => ?_) (fun c_5 => ?_)
      · exact j_ret C hQ rfl (by omega) (by omega) dX9_turn_74
      · exact absurd c_5 (by omega)
    | succ n ih =>
      intro r hr x2 x3
      have inner : ∀ k j : Nat, j + k = 8 → ∀ x3 : Option Value, gl_J κ 0 0 (gl_mL, va_up I 40 (gl_ti j (gl_to r (I 40))), L, B, gl_mR) 10 [some (.ref 0), some (.int (nI r)), some (.int (nI j)), x3] [] := by
        intro k
        induction k with
        | zero =>
          intro j hj x3
          have hjN : j = 8 := by omega
          subst hjN
          refine j_iload_n C dX9_turn_10 rfl 11 rfl ?_
          refine j_bipush (v := nI 8) C dX9_turn_11 (by decide) 13 rfl ?_
          refine n_icmp_ge C 68 16 dX9_turn_13 (by decide) rfl (by omega) (by omega) (fun c_13 => ?_) (fun c_13 => ?_)
          · refine n_iinc C dX9_turn_68 rfl (by rw [hnL]; decide) rfl 71 rfl ?_
            refine j_goto (tgt := 2) C dX9_turn_71 (by decide) ?_
            exact ih (r + 1) (by omega) _ _
          · exact absurd c_13 (by omega)
        | succ k ih =>
          intro j hj x3
          refine j_iload_n C dX9_turn_10 rfl 11 rfl ?_
          refine j_bipush (v := nI 8) C dX9_turn_11 (by decide) 13 rfl ?_
          refine n_icmp_ge C 68 16 dX9_turn_13 (by decide) rfl (by omega) (by omega) (fun c_13 => ?_) (fun c_13 => ?_)
          · exact absurd c_13 (by omega)
          · refine j_aload_n C dX9_turn_16 rfl 17 rfl ?_
            refine gf_X9_130 C rfl rfl dX9_turn_17 20 rfl ?_
            refine j_iload_n C dX9_turn_20 rfl 21 rfl ?_
            refine j_iald C rfl (by omega) (by decide) dX9_turn_21 22 rfl ?_
            rw [gl_up_eq]
            refine j_aload_n C dX9_turn_22 rfl 23 rfl ?_
            refine gf_X9_130 C rfl rfl dX9_turn_23 26 rfl ?_
            refine j_iload_n C dX9_turn_26 rfl 27 rfl ?_
            refine j_iconst (v := nI 1) C dX9_turn_27 (by decide) 28 rfl ?_
            refine n_iadd C dX9_turn_28 29 rfl ?_
            refine j_bipush (v := nI 8) C dX9_turn_29 (by decide) 31 rfl ?_
            refine n_irem C dX9_turn_31 (by omega) (by omega) (by omega) 32 rfl ?_
            refine j_iald C rfl (by omega) (by decide) dX9_turn_32 33 rfl ?_
            rw [gl_up_eq]
            refine j_iadd C dX9_turn_33 34 rfl ?_
            refine j_istore_n C dX9_turn_34 (Nat.le_of_ble_eq_true rfl) (by rw [hnL]; decide) rfl 35 rfl ?_
            refine j_aload_n C dX9_turn_35 rfl 36 rfl ?_
            refine gf_X9_130 C rfl rfl dX9_turn_36 39 rfl ?_
            refine j_iload_n C dX9_turn_39 rfl 40 rfl ?_
            refine j_iload_n C dX9_turn_40 rfl 41 rfl ?_
            refine j_bipush (v := nI 7) C dX9_turn_41 (by decide) 43 rfl ?_
            refine j_ishl C dX9_turn_43 44 rfl ?_
            refine j_iload_n C dX9_turn_44 rfl 45 rfl ?_
            refine j_bipush (v := nI 25) C dX9_turn_45 (by decide) 47 rfl ?_
            refine j_iushr C dX9_turn_47 48 rfl ?_
            refine j_ior C dX9_turn_48 49 rfl ?_
            refine j_aload_n C dX9_turn_49 rfl 50 rfl ?_
            refine gf_X9_130 C rfl rfl dX9_turn_50 53 rfl ?_
            refine j_iload_n C dX9_turn_53 rfl 54 rfl ?_
            refine j_iconst (v := nI 3) C dX9_turn_54 (by decide) 55 rfl ?_
            refine n_iadd C dX9_turn_55 56 rfl ?_
            refine j_bipush (v := nI 8) C dX9_turn_56 (by decide) 58 rfl ?_
            refine n_irem C dX9_turn_58 (by omega) (by omega) (by omega) 59 rfl ?_
            refine j_iald C rfl (by omega) (by decide) dX9_turn_59 60 rfl ?_
            rw [gl_up_eq]
            refine j_ixor C dX9_turn_60 61 rfl ?_
            refine j_iast C rfl (by omega) (by decide) dX9_turn_61 62 rfl ?_
            refine n_iinc C dX9_turn_62 rfl (by rw [hnL]; decide) rfl 65 rfl ?_
            refine j_goto (tgt := 10) C dX9_turn_65 (by decide) ?_
            rw [gl_u2_up]
            exact ih (j + 1) (by omega) _
      refine j_iload_n C dX9_turn_2 rfl 3 rfl ?_
      refine j_bipush (v := nI 6) C dX9_turn_3 (by decide) 5 rfl ?_
      refine n_icmp_ge C 74 8 dX9_turn_5 (by decide) rfl (by omega) (by omega) (fun c_5 => ?_) (fun c_5 => ?_)
      · exact absurd c_5 (by omega)
      · refine j_iconst (v := nI 0) C dX9_turn_8 (by decide) 9 rfl ?_
        refine j_istore_n C dX9_turn_9 (Nat.le_of_ble_eq_true rfl) (by rw [hnL]; decide) rfl 10 rfl ?_
        exact inner 8 0 rfl _
  refine j_iconst (v := nI 0) C dX9_turn_0 (by decide) 1 rfl ?_
  refine j_istore_n C dX9_turn_1 (Nat.le_of_ble_eq_true rfl) (by rw [hnL]; decide) rfl 2 rfl ?_
  have := outer 6 0 rfl none none
  rw [show gl_to 0 (I 40) = I 40 from rfl, gl_up_self] at this
  exact this
theorem gl_pts_s (a : Nat → Int32) (n : Nat) (w : Nat → Int32) (k : Nat) : gl_pts a n w (k + 1) = gl_pt (gl_pts a n w k) (n + k) (w k) := rfl
/-- the row behind k of n words, as the reference turns it -/
def gl_mk (w : Nat → Int32) (n k : Nat) : Nat → Int32 := if k = n ∧ n % 8 ≠ 0 then gl_turn (gl_pts gl_i0 0 w k) else gl_pts gl_i0 0 w k
theorem gl_mk_lt {w : Nat → Int32} {n k : Nat} (h : k < n) : gl_mk w n k = gl_pts gl_i0 0 w k := if_neg (by omega)
theorem gl_mk_t7 {w : Nat → Int32} {n k : Nat} (h : k < n) (h7 : k % 8 = 7) : gl_turn (va_up (gl_mk w n k) (k % 8) (gl_mk w n k (k % 8) ^^^ w k)) = gl_mk w n (k + 1) := by
  rw [gl_mk_lt h, gl_mk, if_neg (by omega), gl_pts_s, gl_pt, Nat.zero_add, if_pos (by omega)]
theorem gl_mk_tn {w : Nat → Int32} {n k : Nat} (h : k + 1 = n) (h7 : k % 8 ≠ 7) : gl_turn (va_up (gl_mk w n k) (k % 8) (gl_mk w n k (k % 8) ^^^ w k)) = gl_mk w n (k + 1) := by
  rw [gl_mk_lt (by omega), gl_mk, if_pos (by omega), gl_pts_s, gl_pt, Nat.zero_add, if_neg (by omega)]
theorem gl_mk_no {w : Nat → Int32} {n k : Nat} (h : k + 1 < n) (h7 : k % 8 ≠ 7) : va_up (gl_mk w n k) (k % 8) (gl_mk w n k (k % 8) ^^^ w k) = gl_mk w n (k + 1) := by
  rw [gl_mk_lt (by omega), gl_mk_lt h, gl_pts_s, gl_pt, Nat.zero_add, if_neg (by omega)]
theorem gl_mk_e {w : Nat → Int32} {n : Nat} : gl_turn (va_up (gl_mk w n n) 0 (gl_mk w n n 0 ^^^ nI n)) = gl_fin w n := by
  unfold gl_fin gl_e8
  by_cases h : n % 8 = 0
  · rw [gl_mk, if_neg (by omega), if_pos h]
  · rw [gl_mk, if_pos ⟨rfl, h⟩, if_neg h]
set_option maxHeartbeats 4000000 in
set_option maxRecDepth 100000 in
theorem ct_X9_mix {l : Launch} {δ : gl_Del} {I : Nat → Nat → Int32} {L : Nat → Nat → Int64} {B : Nat → Nat → Bool} {n : Nat} (h : Nat) (hh : 2 ≤ h) (h1 : 1 ≤ n) (h2 : n ≤ 24) : gl_Ct l δ yX9_mix (ws_ yX9_mix cX9_mix 3 none) (gl_rm h 0 0) 0 0 [.ref 0, .int (nI n)] (gl_mL, I, L, B, gl_mR) (gl_Qv fun S => S = (gl_mL, va_up I 40 (gl_fin (I 39) n), L, B, gl_mR)) := by
  refine gl_of (by decide) (Nat.le_of_ble_eq_true rfl) rfl ?_
  intro κ C hQ hlκ hδκ hnL hini
  change gl_Cx κ RX9 _ _ _ at C
  have part3 : gl_J κ 0 0 (gl_mL, va_up I 40 (gl_mk (I 39) n n), L, B, gl_mR) 77 [some (.ref 0), some (.int (nI n)), some (.int (nI n))] [] := by
    refine j_aload_n C dX9_mix_77 rfl 78 rfl ?_
    refine gf_X9_130 C rfl rfl dX9_mix_78 81 rfl ?_
    refine j_iconst (v := nI 0) C dX9_mix_81 (by decide) 82 rfl ?_
    refine j_dup2 C dX9_mix_82 rfl rfl 83 rfl ?_
    refine j_iald C rfl (by omega) (by decide) dX9_mix_83 84 rfl ?_
    rw [gl_up_eq]
    refine j_iload_n C dX9_mix_84 rfl 85 rfl ?_
    refine j_ixor C dX9_mix_85 86 rfl ?_
    refine j_iast C rfl (by omega) (by decide) dX9_mix_86 87 rfl ?_
    rw [gl_u2_up]
    refine j_aload_n C dX9_mix_87 rfl 88 rfl ?_
    refine j_cv C (cs_X9_185 C (ct_X9_turn (h - 1) (by omega)) rfl rfl (by omega) (by omega) (by omega) rfl (Nat.le_of_ble_eq_true rfl) dX9_mix_88) 91 rfl ?_
    rintro _ rfl
    rw [gl_up_eq, gl_up_up]
    rw [gl_mk_e]
    exact j_ret C hQ rfl (by omega) (by omega) dX9_mix_91
  have loop2 : ∀ k j : Nat, j + k = n → gl_J κ 0 0 (gl_mL, va_up I 40 (gl_mk (I 39) n j), L, B, gl_mR) 28 [some (.ref 0), some (.int (nI n)), some (.int (nI j))] [] := by
    intro k
    induction k with
    | zero =>
      intro j hj
      have hjN : j = n := by omega
      subst hjN
      refine j_iload_n C dX9_mix_28 rfl 29 rfl ?_
      refine j_iload_n C dX9_mix_29 rfl 30 rfl ?_
      refine n_icmp_ge C 77 33 dX9_mix_30 (by decide) rfl (by omega) (by omega) (fun c_30 => ?_) (fun c_30 => ?_)
      · exact part3
      · exact absurd c_30 (by omega)
    | succ k ih =>
      intro j hj
      refine j_iload_n C dX9_mix_28 rfl 29 rfl ?_
      refine j_iload_n C dX9_mix_29 rfl 30 rfl ?_
      refine n_icmp_ge C 77 33 dX9_mix_30 (by decide) rfl (by omega) (by omega) (fun c_30 => ?_) (fun c_30 => ?_)
      · exact absurd c_30 (by omega)
      · refine j_aload_n C dX9_mix_33 rfl 34 rfl ?_
        refine gf_X9_130 C rfl rfl dX9_mix_34 37 rfl ?_
        refine j_iload_n C dX9_mix_37 rfl 38 rfl ?_
        refine j_bipush (v := nI 8) C dX9_mix_38 (by decide) 40 rfl ?_
        refine n_irem C dX9_mix_40 (by omega) (by omega) (by omega) 41 rfl ?_
        refine j_dup2 C dX9_mix_41 rfl rfl 42 rfl ?_
        refine j_iald C rfl (by omega) (by decide) dX9_mix_42 43 rfl ?_
        rw [gl_up_eq]
        refine j_aload_n C dX9_mix_43 rfl 44 rfl ?_
        refine gf_X9_127 C rfl rfl dX9_mix_44 47 rfl ?_
        refine j_iload_n C dX9_mix_47 rfl 48 rfl ?_
        refine j_iald C rfl (by omega) (by decide) dX9_mix_48 49 rfl ?_
        rw [gl_up_ne (by decide)]
        refine j_ixor C dX9_mix_49 50 rfl ?_
        refine j_iast C rfl (by omega) (by decide) dX9_mix_50 51 rfl ?_
        rw [gl_u2_up]
        refine j_iload_n C dX9_mix_51 rfl 52 rfl ?_
        refine j_bipush (v := nI 8) C dX9_mix_52 (by decide) 54 rfl ?_
        refine n_irem C dX9_mix_54 (by omega) (by omega) (by omega) 55 rfl ?_
        refine j_bipush (v := nI 7) C dX9_mix_55 (by decide) 57 rfl ?_
        refine n_icmp_eq C 67 60 dX9_mix_57 (by decide) rfl (by omega) (by omega) (fun c_57 => ?_) (fun c_57 => ?_)
        · refine j_aload_n C dX9_mix_67 rfl 68 rfl ?_
          refine j_cv C (cs_X9_185 C (ct_X9_turn (h - 1) (by omega)) rfl rfl (by omega) (by omega) (by omega) rfl (Nat.le_of_ble_eq_true rfl) dX9_mix_68) 71 rfl ?_
          rintro _ rfl
          rw [gl_up_eq, gl_up_up]
          rw [gl_mk_t7 (by omega) c_57]
          refine n_iinc C dX9_mix_71 rfl (by rw [hnL]; decide) rfl 74 rfl ?_
          refine j_goto (tgt := 28) C dX9_mix_74 (by decide) ?_
          exact ih (j + 1) (by omega)
        · refine j_iload_n C dX9_mix_60 rfl 61 rfl ?_
          refine j_iload_n C dX9_mix_61 rfl 62 rfl ?_
          refine j_iconst (v := nI 1) C dX9_mix_62 (by decide) 63 rfl ?_
          refine n_isub C dX9_mix_63 (by omega) 64 rfl ?_
          refine n_icmp_ne C 71 67 dX9_mix_64 (by decide) rfl (by omega) (by omega) (fun c_64 => ?_) (fun c_64 => ?_)
          · rw [gl_mk_no (by omega) c_57]
            refine n_iinc C dX9_mix_71 rfl (by rw [hnL]; decide) rfl 74 rfl ?_
            refine j_goto (tgt := 28) C dX9_mix_74 (by decide) ?_
            exact ih (j + 1) (by omega)
          · refine j_aload_n C dX9_mix_67 rfl 68 rfl ?_
            refine j_cv C (cs_X9_185 C (ct_X9_turn (h - 1) (by omega)) rfl rfl (by omega) (by omega) (by omega) rfl (Nat.le_of_ble_eq_true rfl) dX9_mix_68) 71 rfl ?_
            rintro _ rfl
            rw [gl_up_eq, gl_up_up]
            rw [gl_mk_tn (by omega) c_57]
            refine n_iinc C dX9_mix_71 rfl (by rw [hnL]; decide) rfl 74 rfl ?_
            refine j_goto (tgt := 28) C dX9_mix_74 (by decide) ?_
            exact ih (j + 1) (by omega)
  have part2 : ∀ x2 : Option Value, (∀ v, x2 = some v → v.category = 1) → gl_J κ 0 0 (gl_mL, va_up I 40 gl_i0, L, B, gl_mR) 26 [some (.ref 0), some (.int (nI n)), x2] [] := by
    intro x2 _
    refine j_iconst (v := nI 0) C dX9_mix_26 (by decide) 27 rfl ?_
    refine j_istore_n C dX9_mix_27 (Nat.le_of_ble_eq_true rfl) (by rw [hnL]; decide) rfl 28 rfl ?_
    have := loop2 n 0 (by omega)
    rw [gl_mk_lt (by omega)] at this
    exact this
  have loop1 : ∀ k j : Nat, j + k = 8 → gl_J κ 0 0 (gl_mL, va_up I 40 (gl_bi j (I 40)), L, B, gl_mR) 2 [some (.ref 0), some (.int (nI n)), some (.int (nI j))] [] := by
    intro k
    induction k with
    | zero =>
      intro j hj
      have hjN : j = 8 := by omega
      subst hjN
      refine j_iload_n C dX9_mix_2 rfl 3 rfl ?_
      refine j_bipush (v := nI 8) C dX9_mix_3 (by decide) 5 rfl ?_
      refine n_icmp_ge C 26 8 dX9_mix_5 (by decide) rfl (by omega) (by omega) (fun c_5 => ?_) (fun c_5 => ?_)
      · refine j_cong (r' := gl_i0) rfl (fun j hj => by simp [gl_bi, hj]) ?_
        exact part2 _ (fun v hv => by cases hv; rfl)
      · exact absurd c_5 (by omega)
    | succ k ih =>
      intro j hj
      refine j_iload_n C dX9_mix_2 rfl 3 rfl ?_
      refine j_bipush (v := nI 8) C dX9_mix_3 (by decide) 5 rfl ?_
      refine n_icmp_ge C 26 8 dX9_mix_5 (by decide) rfl (by omega) (by omega) (fun c_5 => ?_) (fun c_5 => ?_)
      · exact absurd c_5 (by omega)
      · refine j_aload_n C dX9_mix_8 rfl 9 rfl ?_
        refine gf_X9_130 C rfl rfl dX9_mix_9 12 rfl ?_
        refine j_iload_n C dX9_mix_12 rfl 13 rfl ?_
        refine j_iload_n C dX9_mix_13 rfl 14 rfl ?_
        refine j_iconst (v := nI 1) C dX9_mix_14 (by decide) 15 rfl ?_
        refine n_iadd C dX9_mix_15 16 rfl ?_
        refine j_ldc C q1463 dX9_mix_16 18 rfl ?_
        refine j_imul C dX9_mix_18 19 rfl ?_
        refine j_iast C rfl (by omega) (by decide) dX9_mix_19 20 rfl ?_
        refine n_iinc C dX9_mix_20 rfl (by rw [hnL]; decide) rfl 23 rfl ?_
        refine j_goto (tgt := 2) C dX9_mix_23 (by decide) ?_
        rw [gl_u2_up, show nI (j + 1) * 1640531527 = gl_i0 j from rfl, gl_bi_s]
        exact ih (j + 1) (by omega)
  refine j_iconst (v := nI 0) C dX9_mix_0 (by decide) 1 rfl ?_
  refine j_istore_n C dX9_mix_1 (Nat.le_of_ble_eq_true rfl) (by rw [hnL]; decide) rfl 2 rfl ?_
  have := loop1 8 0 rfl
  rw [show gl_bi 0 (I 40) = I 40 by funext k; simp [gl_bi], gl_up_self] at this
  exact this
set_option maxHeartbeats 4000000 in
set_option maxRecDepth 100000 in
theorem ct_X9_toRow {l : Launch} {δ : gl_Del} {I : Nat → Nat → Int32} {L : Nat → Nat → Int64} {B : Nat → Nat → Bool} {to nt at_ : Nat} (h : Nat) (hh : 1 ≤ h) (ht : gl_msh to = (0, nt)) (htm : to ≠ 40) (hat : at_ + 8 ≤ nt) (hnt : nt < 2 ^ 31) : gl_Ct l δ yX9_toRow (ws_ yX9_toRow cX9_toRow 4 none) (gl_rm h 0 0) 0 0 [.ref 0, .ref to, .int (nI at_)] (gl_mL, I, L, B, gl_mR) (gl_Qv fun S => S = (gl_mL, va_up I to (va_cpy (I 40) (I to) 0 at_ 8), L, B, gl_mR)) := by
  refine gl_of (by decide) (Nat.le_of_ble_eq_true rfl) rfl ?_
  intro κ C hQ hlκ hδκ hnL hini
  change gl_Cx κ RX9 _ _ _ at C
  have loop : ∀ k j : Nat, j + k = 8 → gl_J κ 0 0 (gl_mL, va_up I to (va_cpy (I 40) (I to) 0 at_ j), L, B, gl_mR) 2 [some (.ref 0), some (.ref to), some (.int (nI at_)), some (.int (nI j))] [] := by
    intro k
    induction k with
    | zero =>
      intro j hj
      have hjN : j = 8 := by omega
      subst hjN
      refine j_iload_n C dX9_toRow_2 rfl 3 rfl ?_
      refine j_bipush (v := nI 8) C dX9_toRow_3 (by decide) 5 rfl ?_
      refine n_icmp_ge C 25 8 dX9_toRow_5 (by decide) rfl (by omega) (by omega) (fun c_5 => ?_) (fun c_5 => ?_)
      · exact j_ret C hQ rfl (by omega) (by omega) dX9_toRow_25
      · exact absurd c_5 (by omega)
    | succ k ih =>
      intro j hj
      refine j_iload_n C dX9_toRow_2 rfl 3 rfl ?_
      refine j_bipush (v := nI 8) C dX9_toRow_3 (by decide) 5 rfl ?_
      refine n_icmp_ge C 25 8 dX9_toRow_5 (by decide) rfl (by omega) (by omega) (fun c_5 => ?_) (fun c_5 => ?_)
      · exact absurd c_5 (by omega)
      · refine j_aload_n C dX9_toRow_8 rfl 9 rfl ?_
        refine j_iload_n C dX9_toRow_9 rfl 10 rfl ?_
        refine j_iload_n C dX9_toRow_10 rfl 11 rfl ?_
        refine n_iadd C dX9_toRow_11 12 rfl ?_
        refine j_aload_n C dX9_toRow_12 rfl 13 rfl ?_
        refine gf_X9_130 C rfl rfl dX9_toRow_13 16 rfl ?_
        refine j_iload_n C dX9_toRow_16 rfl 17 rfl ?_
        refine j_iald C rfl (by omega) (by decide) dX9_toRow_17 18 rfl ?_
        rw [gl_up_ne (Ne.symm htm)]
        refine j_iast C ht (by omega) hnt dX9_toRow_18 19 rfl ?_
        refine n_iinc C dX9_toRow_19 rfl (by rw [hnL]; decide) rfl 22 rfl ?_
        refine j_goto (tgt := 2) C dX9_toRow_22 (by decide) ?_
        rw [gl_u2_up, gl_cpy_s]
        exact ih (j + 1) (by omega)
  refine j_iconst (v := nI 0) C dX9_toRow_0 (by decide) 1 rfl ?_
  refine j_istore_n C dX9_toRow_1 (Nat.le_of_ble_eq_true rfl) (by rw [hnL]; decide) rfl 2 rfl ?_
  have := loop 8 0 rfl
  rw [gl_cpy_0, gl_up_self] at this
  exact this
/-- the scratch of sums: words and mixed -/
def gl_wm (I : Nat → Nat → Int32) (w m : Nat → Int32) : Nat → Nat → Int32 := va_up (va_up I 39 w) 40 m
theorem gl_wm_40 {I : Nat → Nat → Int32} {w m : Nat → Int32} : gl_wm I w m 40 = m := gl_up_eq
theorem gl_wm_o {I : Nat → Nat → Int32} {w m : Nat → Int32} {c : Nat} (h1 : c ≠ 39) (h2 : c ≠ 40) : gl_wm I w m c = I c := by
  unfold gl_wm
  rw [gl_up_ne h2, gl_up_ne h1]
theorem gl_wm_wm {I : Nat → Nat → Int32} {w m w' m' : Nat → Int32} : gl_wm (gl_wm I w m) w' m' = gl_wm I w' m' := by
  unfold gl_wm
  rw [gl_up_comm (show (40 : Nat) ≠ 39 by decide), gl_up_up, gl_up_up]
theorem gl_wm_up {I : Nat → Nat → Int32} {w m r : Nat → Int32} {c : Nat} (h1 : c ≠ 39) (h2 : c ≠ 40) : gl_wm (va_up I c r) w m = va_up (gl_wm I w m) c r := by
  unfold gl_wm
  rw [gl_up_comm h1, gl_up_comm h2]
set_option maxHeartbeats 4000000 in
set_option maxRecDepth 100000 in
theorem ct_X9_wayOf {l : Launch} {δ : gl_Del} {I : Nat → Nat → Int32} {L : Nat → Nat → Int64} {B : Nat → Nat → Bool} {ky : Int32} (h : Nat) (hh : 3 ≤ h)  : gl_Ct l δ yX9_wayOf (ws_ yX9_wayOf cX9_wayOf 2 none) (gl_rm h 0 0) 0 0 [.ref 0, .int ky] (gl_mL, I, L, B, gl_mR) (gl_Qv fun S => ∃ w, S = (gl_mL, gl_wm I w (gl_way ky), L, B, gl_mR)) := by
  refine gl_of (by decide) (Nat.le_of_ble_eq_true rfl) rfl ?_
  intro κ C hQ hlκ hδκ hnL hini
  change gl_Cx κ RX9 _ _ _ at C
  refine j_aload_n C dX9_wayOf_0 rfl 1 rfl ?_
  refine gf_X9_127 C rfl rfl dX9_wayOf_1 4 rfl ?_
  refine j_iconst (v := nI 0) C dX9_wayOf_4 (by decide) 5 rfl ?_
  refine j_iconst (v := nI 4) C dX9_wayOf_5 (by decide) 6 rfl ?_
  refine j_iast C rfl (by omega) (by decide) dX9_wayOf_6 7 rfl ?_
  rw [gl_u2]
  refine j_aload_n C dX9_wayOf_7 rfl 8 rfl ?_
  refine gf_X9_127 C rfl rfl dX9_wayOf_8 11 rfl ?_
  refine j_iconst (v := nI 1) C dX9_wayOf_11 (by decide) 12 rfl ?_
  refine j_iload_n C dX9_wayOf_12 rfl 13 rfl ?_
  refine j_iast C rfl (by omega) (by decide) dX9_wayOf_13 14 rfl ?_
  rw [gl_u2_up]
  refine j_aload_n C dX9_wayOf_14 rfl 15 rfl ?_
  refine j_iconst (v := nI 2) C dX9_wayOf_15 (by decide) 16 rfl ?_
  refine j_cv C (cs_X9_188 C (ct_X9_mix (n := 2) (h - 1) (by omega) (by omega) (by omega)) rfl rfl (by omega) (by omega) (by omega) rfl (Nat.le_of_ble_eq_true rfl) dX9_wayOf_16) 19 rfl ?_
  rintro _ rfl
  rw [gl_up_eq, gl_fin_congr (w' := gl_wl [nI 4, ky]) (fun t ht => by rcases (show t = 0 ∨ t = 1 by omega) with rfl | rfl <;> rfl), show gl_fin (gl_wl [nI 4, ky]) 2 = gl_way ky from rfl]
  exact j_ret C hQ ⟨_, rfl⟩ (by omega) (by omega) dX9_wayOf_19
set_option maxHeartbeats 4000000 in
set_option maxRecDepth 100000 in
theorem ct_X9_leaf {l : Launch} {δ : gl_Del} {I : Nat → Nat → Int32} {L : Nat → Nat → Int64} {B : Nat → Nat → Bool} {ky la : Int32} (h : Nat) (hh : 3 ≤ h)  : gl_Ct l δ yX9_leaf (ws_ yX9_leaf cX9_leaf 3 none) (gl_rm h 0 0) 0 0 [.ref 0, .int ky, .int la] (gl_mL, I, L, B, gl_mR) (gl_Qv fun S => ∃ w, S = (gl_mL, gl_wm I w (gl_leaf ky la), L, B, gl_mR)) := by
  refine gl_of (by decide) (Nat.le_of_ble_eq_true rfl) rfl ?_
  intro κ C hQ hlκ hδκ hnL hini
  change gl_Cx κ RX9 _ _ _ at C
  refine j_aload_n C dX9_leaf_0 rfl 1 rfl ?_
  refine gf_X9_127 C rfl rfl dX9_leaf_1 4 rfl ?_
  refine j_iconst (v := nI 0) C dX9_leaf_4 (by decide) 5 rfl ?_
  refine j_iconst (v := nI 5) C dX9_leaf_5 (by decide) 6 rfl ?_
  refine j_iast C rfl (by omega) (by decide) dX9_leaf_6 7 rfl ?_
  rw [gl_u2]
  refine j_aload_n C dX9_leaf_7 rfl 8 rfl ?_
  refine gf_X9_127 C rfl rfl dX9_leaf_8 11 rfl ?_
  refine j_iconst (v := nI 1) C dX9_leaf_11 (by decide) 12 rfl ?_
  refine j_iload_n C dX9_leaf_12 rfl 13 rfl ?_
  refine j_iast C rfl (by omega) (by decide) dX9_leaf_13 14 rfl ?_
  rw [gl_u2_up]
  refine j_aload_n C dX9_leaf_14 rfl 15 rfl ?_
  refine gf_X9_127 C rfl rfl dX9_leaf_15 18 rfl ?_
  refine j_iconst (v := nI 2) C dX9_leaf_18 (by decide) 19 rfl ?_
  refine j_iload_n C dX9_leaf_19 rfl 20 rfl ?_
  refine j_iast C rfl (by omega) (by decide) dX9_leaf_20 21 rfl ?_
  rw [gl_u2_up]
  refine j_aload_n C dX9_leaf_21 rfl 22 rfl ?_
  refine j_iconst (v := nI 3) C dX9_leaf_22 (by decide) 23 rfl ?_
  refine j_cv C (cs_X9_188 C (ct_X9_mix (n := 3) (h - 1) (by omega) (by omega) (by omega)) rfl rfl (by omega) (by omega) (by omega) rfl (Nat.le_of_ble_eq_true rfl) dX9_leaf_23) 26 rfl ?_
  rintro _ rfl
  rw [gl_up_eq, gl_fin_congr (w' := gl_wl [nI 5, ky, la]) (fun t ht => by rcases (show t = 0 ∨ t = 1 ∨ t = 2 by omega) with rfl | rfl | rfl <;> rfl), show gl_fin (gl_wl [nI 5, ky, la]) 3 = gl_leaf ky la from rfl]
  exact j_ret C hQ ⟨_, rfl⟩ (by omega) (by omega) dX9_leaf_26
set_option maxHeartbeats 4000000 in
set_option maxRecDepth 100000 in
theorem ct_X9_entrySum {l : Launch} {δ : gl_Del} {I : Nat → Nat → Int32} {L : Nat → Nat → Int64} {B : Nat → Nat → Bool} {ky : Int32} {v : Int64} {to nt at_ : Nat} (h : Nat) (hh : 3 ≤ h) (ht : gl_msh to = (0, nt)) (ht9 : to ≠ 39) (htm : to ≠ 40) (hat : at_ + 8 ≤ nt) (hnt : nt < 2 ^ 31) : gl_Ct l δ yX9_entrySum (ws_ yX9_entrySum cX9_entrySum 6 none) (gl_rm h 0 0) 0 0 [.ref 0, .int ky, .long v, .ref to, .int (nI at_)] (gl_mL, I, L, B, gl_mR) (gl_Qv fun S => ∃ w m, S = (gl_mL, va_up (gl_wm I w m) to (va_cpy (gl_entry ky v) (I to) 0 at_ 8), L, B, gl_mR)) := by
  refine gl_of (by decide) (Nat.le_of_ble_eq_true rfl) rfl ?_
  intro κ C hQ hlκ hδκ hnL hini
  change gl_Cx κ RX9 _ _ _ at C
  refine j_aload_n C dX9_entrySum_0 rfl 1 rfl ?_
  refine gf_X9_127 C rfl rfl dX9_entrySum_1 4 rfl ?_
  refine j_iconst (v := nI 0) C dX9_entrySum_4 (by decide) 5 rfl ?_
  refine j_iconst (v := nI 1) C dX9_entrySum_5 (by decide) 6 rfl ?_
  refine j_iast C rfl (by omega) (by decide) dX9_entrySum_6 7 rfl ?_
  rw [gl_u2]
  refine j_aload_n C dX9_entrySum_7 rfl 8 rfl ?_
  refine gf_X9_127 C rfl rfl dX9_entrySum_8 11 rfl ?_
  refine j_iconst (v := nI 1) C dX9_entrySum_11 (by decide) 12 rfl ?_
  refine j_iload_n C dX9_entrySum_12 rfl 13 rfl ?_
  refine j_iast C rfl (by omega) (by decide) dX9_entrySum_13 14 rfl ?_
  rw [gl_u2_up]
  refine j_aload_n C dX9_entrySum_14 rfl 15 rfl ?_
  refine gf_X9_127 C rfl rfl dX9_entrySum_15 18 rfl ?_
  refine j_iconst (v := nI 2) C dX9_entrySum_18 (by decide) 19 rfl ?_
  refine j_lload_n C dX9_entrySum_19 rfl 20 rfl ?_
  refine j_bipush (v := nI 32) C dX9_entrySum_20 (by decide) 22 rfl ?_
  refine j_lshr C dX9_entrySum_22 23 rfl ?_
  refine j_l2i C dX9_entrySum_23 24 rfl ?_
  refine j_iast C rfl (by omega) (by decide) dX9_entrySum_24 25 rfl ?_
  rw [gl_u2_up]
  refine j_aload_n C dX9_entrySum_25 rfl 26 rfl ?_
  refine gf_X9_127 C rfl rfl dX9_entrySum_26 29 rfl ?_
  refine j_iconst (v := nI 3) C dX9_entrySum_29 (by decide) 30 rfl ?_
  refine j_lload_n C dX9_entrySum_30 rfl 31 rfl ?_
  refine j_l2i C dX9_entrySum_31 32 rfl ?_
  refine j_iast C rfl (by omega) (by decide) dX9_entrySum_32 33 rfl ?_
  rw [gl_u2_up]
  refine j_aload_n C dX9_entrySum_33 rfl 34 rfl ?_
  refine j_iconst (v := nI 4) C dX9_entrySum_34 (by decide) 35 rfl ?_
  refine j_cv C (cs_X9_188 C (ct_X9_mix (n := 4) (h - 1) (by omega) (by omega) (by omega)) rfl rfl (by omega) (by omega) (by omega) rfl (Nat.le_of_ble_eq_true rfl) dX9_entrySum_35) 38 rfl ?_
  rintro _ rfl
  rw [gl_up_eq, gl_fin_congr (w' := gl_wl [nI 1, ky, (v >>> ((nI 32).toInt64 &&& 63)).toInt32, v.toInt32]) (fun t ht => by rcases (show t = 0 ∨ t = 1 ∨ t = 2 ∨ t = 3 by omega) with rfl | rfl | rfl | rfl <;> rfl), show gl_fin (gl_wl [nI 1, ky, (v >>> ((nI 32).toInt64 &&& 63)).toInt32, v.toInt32]) 4 = gl_entry ky v from rfl]
  refine j_aload_n C dX9_entrySum_38 rfl 39 rfl ?_
  refine j_aload C dX9_entrySum_39 rfl 41 rfl ?_
  refine j_iload C dX9_entrySum_41 rfl 43 rfl ?_
  refine j_cv C (cs_X9_192 C (ct_X9_toRow (h - 1) (by omega) ht htm hat hnt) rfl rfl (by omega) (by omega) (by omega) rfl (Nat.le_of_ble_eq_true rfl) dX9_entrySum_43) 46 rfl ?_
  rintro _ rfl
  rw [show va_up (va_up I 39 _) 40 _ = gl_wm I _ _ from rfl, gl_wm_40, gl_wm_o ht9 htm]
  exact j_ret C hQ ⟨_, _, rfl⟩ (by omega) (by omega) dX9_entrySum_46
