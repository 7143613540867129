/-! MODULE GlassLog, logs: add (by gen66.py) -/
set_option maxRecDepth 100000
theorem gl_bs_congr {K K' : Nat → Int32} {V V' : Nat → Int64} : ∀ (e a : Nat), (∀ i, a ≤ i → i < a + 2 ^ e → K i = K' i ∧ V i = V' i) → gl_bs K V e a = gl_bs K' V' e a
  | 0, a, h => by
    have := h a (Nat.le_refl _) (by simp)
    rw [gl_bs, gl_bs, this.1, this.2]
  | e + 1, a, h => by
    have e1 : 2 ^ (e + 1) = 2 ^ e + 2 ^ e := by rw [Nat.pow_succ]; omega
    have := Nat.two_pow_pos e
    rw [gl_bs, gl_bs, gl_bs_congr e a (fun i h1 h2 => h i h1 (by omega)), gl_bs_congr e (a + 2 ^ e) (fun i h1 h2 => h i (by omega) (by omega))]
theorem gl_sm_congr {I : Nat → Nat → Int32} {l n : Nat} {K K' : Nat → Int32} {V V' : Nat → Int64} (h : gl_sm I l K V n) (hk : ∀ i, i < n → K i = K' i ∧ V i = V' i) : gl_sm I l K' V' n := by
  intro r b hb t ht
  rw [h r b hb t ht, gl_bs_congr (K' := K') (V' := V') r (b * 2 ^ r) (fun i h1 h2 => hk i (by rw [Nat.add_mul, Nat.one_mul] at hb; omega))]
theorem gl_sm_fr {I I' : Nat → Nat → Int32} {l n : Nat} {K : Nat → Int32} {V : Nat → Int64} (h : gl_sm I l K V n) (hn : n < 1024) (hk : ∀ r, r < 10 → I' (l + 9 + r) = I (l + 9 + r)) : gl_sm I' l K V n := by
  intro r b hb t ht
  have hr : r < 10 := by
    have h1 : 2 ^ r < 2 ^ 10 := by
      have : 1 * 2 ^ r ≤ (b + 1) * 2 ^ r := Nat.mul_le_mul_right _ (by omega)
      have e : (2 : Nat) ^ 10 = 1024 := by decide
      omega
    exact (Nat.pow_lt_pow_iff_right (by decide)).mp h1
  rw [hk r hr]
  exact h r b hb t ht
set_option maxHeartbeats 4000000 in
set_option maxRecDepth 100000 in
theorem ct_X2_add {l : Launch} {δ : gl_Del} {Λ : gl_Lay} {I : Nat → Nat → Int32} {L : Nat → Nat → Int64} {B : Nat → Nat → Bool} {R : Nat → Nat → Option Nat} {lo n : Nat} {ky : Int32} {v : Int64} (h : Nat) (hh : 5 ≤ h) (hL : gl_LL Λ R lo) (hG : gl_GL Λ R) (hl : lo + 19 ≤ 690 ∨ 695 ≤ lo) (hn : I lo 9 = nI n) (hn4 : n < 400) (hsm : gl_sm I lo (I (lo + 1)) (L (lo + 4)) n) : gl_Ct l δ yX2_add (ws_ yX2_add cX2_add 7 none) (gl_rm h 0 0) 0 0 [.ref lo, .ref 690, .int ky, .long v] (Λ, I, L, B, R) (gl_Qv fun S => ∃ I', S = (Λ, I', gl_u2 L (lo + 4) n v, gl_u2 (gl_u2 B (lo + 5) n false) (lo + 6) n false, R) ∧ (∀ c, c ≠ 690 → c ≠ 691 → c ≠ lo → c ≠ lo + 1 → (c < lo + 9 ∨ lo + 19 ≤ c) → I' c = I c) ∧ I' (lo + 1) = (va_up (I (lo + 1)) n ky) ∧ I' lo = va_up (I lo) 9 (nI (n + 1)) ∧ gl_sm I' lo (va_up (I (lo + 1)) n ky) (va_up (L (lo + 4)) n v) (n + 1)) := by
  refine gl_of (by decide) (Nat.le_of_ble_eq_true rfl) rfl ?_
  intro κ C hQ hlκ hδκ hnL hini
  change gl_Cx κ RX2 _ _ _ at C
  have hB1 : lo + 5 ≠ lo + 6 := by omega
  have h210 : (2 : Nat) ^ 10 = 1024 := by decide
  have loop : ∀ f r : Nat, r + f = 9 → (n + 1) % 2 ^ r = 0 → ∀ (I1 : Nat → Nat → Int32) (x6 : Option Value), ((∀ c, c ≠ 690 → c ≠ 691 → c ≠ lo → c ≠ lo + 1 → (c < lo + 9 ∨ lo + 19 ≤ c) → I1 c = I c) ∧ I1 (lo + 1) = (va_up (I (lo + 1)) n ky) ∧ I1 lo = va_up (I lo) 9 (nI (n + 1))) → (∀ r' b, r' ≤ r → (b + 1) * 2 ^ r' ≤ n + 1 → ∀ t, t < 8 → I1 (lo + 9 + r') (b * 8 + t) = gl_bs (va_up (I (lo + 1)) n ky) (va_up (L (lo + 4)) n v) r' (b * 2 ^ r') t) → (∀ r' b, r < r' → (b + 1) * 2 ^ r' ≤ n → ∀ t, t < 8 → I1 (lo + 9 + r') (b * 8 + t) = gl_bs (va_up (I (lo + 1)) n ky) (va_up (L (lo + 4)) n v) r' (b * 2 ^ r') t) → gl_J κ 0 0 (Λ, I1, gl_u2 L (lo + 4) n v, gl_u2 (gl_u2 B (lo + 5) n false) (lo + 6) n false, R) 72 [some (.ref lo), some (.ref 690), some (.int ky), some (.long v), none, some (.int (nI (r + 1))), x6] [] := by
    intro f
    induction f with
    | zero =>
      intro r hr hdv I1 x6 hf1 hs1 hs2
      exfalso
      obtain rfl : r = 9 := by omega
      rw [Nat.mod_eq_of_lt (by have : (2 : Nat) ^ 9 = 512 := by decide
                               omega)] at hdv
      omega
    | succ f ih =>
      intro r hr hdv I1 x6 hf1 hs1 hs2
      have hm1 : I1 lo 9 = nI (n + 1) := by rw [hf1.2.2, gl_up_eq]
      have e1 : 2 ^ (r + 1) = 2 ^ r * 2 := Nat.pow_succ 2 r
      have h0r : 0 < 2 ^ r := Nat.two_pow_pos r
      have hr2 : 2 ^ (r + 1) ≤ 2 ^ 10 := Nat.pow_le_pow_right (by decide) (by omega)
      refine j_aload_n C dX2_add_72 rfl 73 rfl ?_
      refine gf_X2_44 C hL.o dX2_add_73 76 rfl ?_
      rw [hm1]
      refine j_iconst (v := nI 1) C dX2_add_76 (by decide) 77 rfl ?_
      refine j_iload C dX2_add_77 rfl 79 rfl ?_
      refine n_ishl C dX2_add_79 (by omega) (by omega) 80 rfl ?_
      refine n_irem C dX2_add_80 (by omega) (by omega) (by omega) 81 rfl ?_
      refine n_if_ne C 151 84 dX2_add_81 (by decide) rfl (Nat.lt_of_le_of_lt (Nat.mod_le _ _) (by omega)) (fun c_81 => ?_) (fun c_81 => ?_)
      · exact j_ret C hQ ⟨_, rfl, hf1.1, hf1.2.1, hf1.2.2, fun r' b hb t ht => by
              rcases Nat.lt_or_ge r r' with hr | hr
              · refine hs2 r' b hr ?_ t ht
                rcases Nat.lt_or_ge ((b + 1) * 2 ^ r') (n + 1) with q | q
                · omega
                · exfalso
                  have q2 : (b + 1) * 2 ^ r' = n + 1 := by omega
                  obtain ⟨d, hd⟩ := Nat.exists_eq_add_of_le (Nat.succ_le_of_lt hr)
                  refine c_81 ?_
                  rw [← q2, Nat.one_mul, hd, Nat.pow_add]
                  exact Nat.mod_eq_zero_of_dvd ⟨(b + 1) * 2 ^ d, by rw [Nat.mul_left_comm]⟩
              · exact hs1 r' b hr hb t ht⟩ (by omega) (by omega) dX2_add_151
      · rw [Nat.one_mul] at c_81
        obtain ⟨k0, hk0⟩ := Nat.dvd_of_mod_eq_zero c_81
        obtain ⟨k, rfl⟩ : ∃ k, k0 = k + 1 := ⟨k0 - 1, by
          have : k0 ≠ 0 := fun q => by rw [q, Nat.mul_zero] at hk0; omega
          omega⟩
        have hq0 : (n + 1) / 2 ^ (r + 1) = k + 1 := by rw [hk0]; exact Nat.mul_div_cancel_left _ (Nat.two_pow_pos _)
        have hk1 : (2 * k + 2) * 2 ^ r = n + 1 := by rw [hk0, e1, Nat.mul_assoc, show 2 * k + 2 = 2 * (k + 1) by omega, Nat.mul_comm (2 * (k + 1)), ]
        have hk2 : (k + 1) * 2 ^ (r + 1) = n + 1 := by rw [hk0, Nat.mul_comm]
        have hb1 : 2 * k + 2 ≤ 400 / 2 ^ r := (Nat.le_div_iff_mul_le (Nat.two_pow_pos _)).mpr (by omega)
        have hb2 : k + 1 ≤ 400 / 2 ^ (r + 1) := (Nat.le_div_iff_mul_le (Nat.two_pow_pos _)).mpr (by omega)
        have hb3 : 400 / 2 ^ r ≤ 400 := Nat.div_le_self _ _
        have hb4 : 400 / 2 ^ (r + 1) ≤ 400 := Nat.div_le_self _ _
        refine j_aload_n C dX2_add_84 rfl 85 rfl ?_
        refine gf_X2_44 C hL.o dX2_add_85 88 rfl ?_
        rw [hm1]
        refine j_iload C dX2_add_88 rfl 90 rfl ?_
        refine n_ishr C dX2_add_90 (by omega) (by omega) 91 rfl ?_
        rw [hq0]
        refine j_iconst (v := nI 1) C dX2_add_91 (by decide) 92 rfl ?_
        refine n_isub C dX2_add_92 (by omega) 93 rfl ?_
        rw [show k + 1 - 1 = k by omega]
        refine j_istore C dX2_add_93 (Nat.le_of_ble_eq_true rfl) (by rw [hnL]; decide) rfl 95 rfl ?_
        refine j_aload_n C dX2_add_95 rfl 96 rfl ?_
        refine j_aload_n C dX2_add_96 rfl 97 rfl ?_
        refine gf_X2_36 C hL.o hL.r7 dX2_add_97 100 rfl ?_
        refine j_iload C dX2_add_100 rfl 102 rfl ?_
        refine j_iconst (v := nI 1) C dX2_add_102 (by decide) 103 rfl ?_
        refine n_isub C dX2_add_103 (by omega) 104 rfl ?_
        rw [show r + 1 - 1 = r by omega]
        refine j_aald C (by decide) hL.k8 (by omega) (by decide) dX2_add_104 105 rfl ?_
        rw [hL.rs r (by omega)]
        change gl_J _ _ _ _ _ _ (Value.ref _ :: _)
        refine j_iconst (v := nI 2) C dX2_add_105 (by decide) 106 rfl ?_
        refine j_iload C dX2_add_106 rfl 108 rfl ?_
        refine n_imul C dX2_add_108 109 rfl ?_
        refine j_bipush (v := nI 8) C dX2_add_109 (by decide) 111 rfl ?_
        refine n_imul C dX2_add_111 112 rfl ?_
        refine j_aload_n C dX2_add_112 rfl 113 rfl ?_
        refine gf_X2_36 C hL.o hL.r7 dX2_add_113 116 rfl ?_
        refine j_iload C dX2_add_116 rfl 118 rfl ?_
        refine j_iconst (v := nI 1) C dX2_add_118 (by decide) 119 rfl ?_
        refine n_isub C dX2_add_119 (by omega) 120 rfl ?_
        rw [show r + 1 - 1 = r by omega]
        refine j_aald C (by decide) hL.k8 (by omega) (by decide) dX2_add_120 121 rfl ?_
        rw [hL.rs r (by omega)]
        change gl_J _ _ _ _ _ _ (Value.ref _ :: _)
        refine j_iconst (v := nI 2) C dX2_add_121 (by decide) 122 rfl ?_
        refine j_iload C dX2_add_122 rfl 124 rfl ?_
        refine n_imul C dX2_add_124 125 rfl ?_
        refine j_iconst (v := nI 1) C dX2_add_125 (by decide) 126 rfl ?_
        refine n_iadd C dX2_add_126 127 rfl ?_
        refine j_bipush (v := nI 8) C dX2_add_127 (by decide) 129 rfl ?_
        refine n_imul C dX2_add_129 130 rfl ?_
        refine j_aload_n C dX2_add_130 rfl 131 rfl ?_
        refine gf_X2_36 C hL.o hL.r7 dX2_add_131 134 rfl ?_
        refine j_iload C dX2_add_134 rfl 136 rfl ?_
        refine j_aald C (by decide) hL.k8 (by omega) (by decide) dX2_add_136 137 rfl ?_
        rw [hL.rs (r + 1) (by omega)]
        change gl_J _ _ _ _ _ _ (Value.ref _ :: _)
        refine j_iload C dX2_add_137 rfl 139 rfl ?_
        refine j_bipush (v := nI 8) C dX2_add_139 (by decide) 141 rfl ?_
        refine n_imul C dX2_add_141 142 rfl ?_
        refine j_cv C (cs_X2_56 C (ct_X6_join (I := I1) (h - 1) (by omega) hG.mx (hL.ks r (by omega)) (by omega) (by omega) (by omega) (hL.ks r (by omega)) (by omega) (by omega) (by omega) (hL.ks (r + 1) (by omega)) (by omega) (by omega) (by omega)) hG.mx.1 rfl (by omega) (by omega) (by omega) rfl (Nat.le_of_ble_eq_true rfl) dX2_add_142) 145 rfl ?_
        rintro _ rfl
        refine n_iinc C dX2_add_145 rfl (by rw [hnL]; decide) rfl 148 rfl ?_
        refine j_goto (tgt := 72) C dX2_add_148 (by decide) ?_
        have hbk : gl_join (fun t => I1 (lo + 9 + r) (2 * k * 8 + t)) (fun t => I1 (lo + 9 + r) ((2 * k + 1) * 8 + t)) = gl_bs (va_up (I (lo + 1)) n ky) (va_up (L (lo + 4)) n v) (r + 1) (k * 2 ^ (r + 1)) := by
          rw [gl_bs]
          have ea : 2 * k * 2 ^ r = k * 2 ^ (r + 1) := by rw [e1, Nat.mul_comm 2 k, Nat.mul_assoc, Nat.mul_comm 2 (2 ^ r)]
          have eb : (2 * k + 1) * 2 ^ r = k * 2 ^ (r + 1) + 2 ^ r := by rw [Nat.add_mul, ea, Nat.one_mul]
          have ec : (2 * k + 1 + 1) * 2 ^ r = n + 1 := hk1
          have ed : (2 * k + 1 + 1) * 2 ^ r = (2 * k + 1) * 2 ^ r + 2 ^ r := by rw [Nat.add_mul _ 1, Nat.one_mul]
          refine gl_join_congr (fun t ht => ?_) (fun t ht => ?_)
          · rw [hs1 r (2 * k) (Nat.le_refl _) (by omega) t ht, ea]
          · rw [hs1 r (2 * k + 1) (Nat.le_refl _) (by omega) t ht, eb]
        rw [hbk]
        refine ih (r + 1) (by omega) c_81 _ _ ⟨fun c q1 q2 q3 q4 q5 => ?_, ?_, ?_⟩ ?_ ?_
        · rw [gl_up_ne (by omega), gl_m1_o q1 q2]; exact hf1.1 c q1 q2 q3 q4 q5
        · rw [gl_up_ne (by omega), gl_m1_o (by omega) (by omega)]; exact hf1.2.1
        · rw [gl_up_ne (by omega), gl_m1_o (by omega) (by omega)]; exact hf1.2.2
        · intro r' b hr hb t ht
          rcases Nat.lt_or_ge r r' with hr' | hr'
          · obtain rfl : r' = r + 1 := by omega
            rw [gl_up_eq]
            have hbk_ : b ≤ k := by
              have : (b + 1) * 2 ^ (r + 1) ≤ (k + 1) * 2 ^ (r + 1) := by omega
              have := Nat.le_of_mul_le_mul_right this (Nat.two_pow_pos _)
              omega
            rcases Nat.lt_or_ge b k with hlt | hge
            · rw [pk_cpy_out (by omega)]
              refine hs2 (r + 1) b (by omega) ?_ t ht
              have : (b + 1 + 1) * 2 ^ (r + 1) ≤ (k + 1) * 2 ^ (r + 1) := Nat.mul_le_mul_right _ (by omega)
              rw [Nat.add_mul _ 1, Nat.one_mul] at this
              have := Nat.two_pow_pos (r + 1)
              omega
            · obtain rfl : b = k := by omega
              rw [pk_cpy_in (by omega) (by omega)]
              congr 1; omega
          · rw [gl_up_ne (by omega), gl_m1_o (by omega) (by omega)]
            exact hs1 r' b hr' hb t ht
        · intro r' b hr hb t ht
          have hr10 : r' < 10 := by
            have q1 : 1 * 2 ^ r' ≤ (b + 1) * 2 ^ r' := Nat.mul_le_mul_right _ (by omega)
            exact (Nat.pow_lt_pow_iff_right (a := 2) (by decide)).mp (show 2 ^ r' < 2 ^ 10 by omega)
          rw [gl_up_ne (by omega), gl_m1_o (by omega) (by omega)]
          exact hs2 r' b (by omega) hb t ht
  refine j_aload_n C dX2_add_0 rfl 1 rfl ?_
  refine gf_X2_9 C hL.o hL.r0 dX2_add_1 4 rfl ?_
  refine j_aload_n C dX2_add_4 rfl 5 rfl ?_
  refine gf_X2_44 C hL.o dX2_add_5 8 rfl ?_
  rw [hn]
  refine j_iload_n C dX2_add_8 rfl 9 rfl ?_
  refine j_iast C hL.k1 (by omega) (by decide) dX2_add_9 10 rfl ?_
  refine j_aload_n C dX2_add_10 rfl 11 rfl ?_
  refine gf_X2_21 C hL.o hL.r3 dX2_add_11 14 rfl ?_
  refine j_aload_n C dX2_add_14 rfl 15 rfl ?_
  refine gf_X2_44 C hL.o dX2_add_15 18 rfl ?_
  rw [gl_u2_ne (by omega), hn]
  refine j_lload_n C dX2_add_18 rfl 19 rfl ?_
  refine j_last C hL.k4 (by omega) (by decide) dX2_add_19 20 rfl ?_
  refine j_aload_n C dX2_add_20 rfl 21 rfl ?_
  refine gf_X2_25 C hL.o hL.r4 dX2_add_21 24 rfl ?_
  refine j_aload_n C dX2_add_24 rfl 25 rfl ?_
  refine gf_X2_44 C hL.o dX2_add_25 28 rfl ?_
  rw [gl_u2_ne (by omega), hn]
  refine j_iconst (v := b2i false) C dX2_add_28 (by decide) 29 rfl ?_
  refine j_zast C hL.k5 (by omega) (by decide) dX2_add_29 30 rfl ?_
  refine j_aload_n C dX2_add_30 rfl 31 rfl ?_
  refine gf_X2_29 C hL.o hL.r5 dX2_add_31 34 rfl ?_
  refine j_aload_n C dX2_add_34 rfl 35 rfl ?_
  refine gf_X2_44 C hL.o dX2_add_35 38 rfl ?_
  rw [gl_u2_ne (by omega), hn]
  refine j_iconst (v := b2i false) C dX2_add_38 (by decide) 39 rfl ?_
  refine j_zast C hL.k6 (by omega) (by decide) dX2_add_39 40 rfl ?_
  refine j_aload_n C dX2_add_40 rfl 41 rfl ?_
  refine j_iload_n C dX2_add_41 rfl 42 rfl ?_
  refine j_lload_n C dX2_add_42 rfl 43 rfl ?_
  refine j_aload_n C dX2_add_43 rfl 44 rfl ?_
  refine gf_X2_36 C hL.o hL.r7 dX2_add_44 47 rfl ?_
  refine j_iconst (v := nI 0) C dX2_add_47 (by decide) 48 rfl ?_
  refine j_aald C (by decide) hL.k8 (by omega) (by decide) dX2_add_48 49 rfl ?_
  rw [hL.rs 0 (by decide)]
  change gl_J _ _ _ _ _ _ (Value.ref _ :: _)
  refine j_aload_n C dX2_add_49 rfl 50 rfl ?_
  refine gf_X2_44 C hL.o dX2_add_50 53 rfl ?_
  rw [gl_u2_ne (by omega), hn]
  refine j_bipush (v := nI 8) C dX2_add_53 (by decide) 55 rfl ?_
  refine n_imul C dX2_add_55 56 rfl ?_
  refine j_cv C (cs_X2_50 C (ct_X6_entry (I := gl_u2 I (lo + 1) n ky) (h - 1) (by omega) hG.mx (hL.ks 0 (by decide)) (by omega) (by show n * 8 + 8 ≤ 3208; omega) (by decide)) hG.mx.1 rfl (by omega) (by omega) (by omega) rfl (Nat.le_of_ble_eq_true rfl) dX2_add_56) 59 rfl ?_
  rintro _ rfl
  refine j_aload_n C dX2_add_59 rfl 60 rfl ?_
  refine j_dup C dX2_add_60 rfl 61 rfl ?_
  refine gf_X2_44 C hL.o dX2_add_61 64 rfl ?_
  rw [gl_up_ne (show lo ≠ lo + 9 + 0 by omega), gl_m1_o (c := lo) (by omega) (by omega), gl_u2_ne (show lo ≠ lo + 1 by omega), hn]
  refine j_iconst (v := nI 1) C dX2_add_64 (by decide) 65 rfl ?_
  refine n_iadd C dX2_add_65 66 rfl ?_
  refine pf_X2_44 C hL.o dX2_add_66 69 rfl ?_
  refine j_iconst (v := nI 1) C dX2_add_69 (by decide) 70 rfl ?_
  refine j_istore C dX2_add_70 (Nat.le_of_ble_eq_true rfl) (by rw [hnL]; decide) rfl 72 rfl ?_
  refine loop 9 0 rfl (Nat.mod_one _) _ none ⟨fun c q1 q2 q3 q4 q5 => ?_, ?_, ?_⟩ ?_ ?_
  · rw [gl_u2_ne q3, gl_up_ne (by omega), gl_m1_o q1 q2, gl_u2_ne q4]
  · rw [gl_u2_ne (by omega), gl_up_ne (by omega), gl_m1_o (by omega) (by omega), gl_u2_eq]
  · rw [gl_u2_eq, gl_up_ne (by omega), gl_m1_o (by omega) (by omega), gl_u2_ne (by omega)]
  · intro r' b hr hb t ht
    obtain rfl : r' = 0 := by omega
    rw [gl_u2_ne (by omega), gl_up_eq, gl_u2_ne (by omega)]
    rw [Nat.pow_zero, Nat.mul_one] at hb
    rw [Nat.pow_zero, Nat.mul_one, gl_bs]
    rcases Nat.lt_or_ge b n with hlt | hge
    · rw [pk_cpy_out (by omega), gl_up_ne (by omega), gl_up_ne (by omega)]
      have := hsm 0 b (by rw [Nat.pow_zero, Nat.mul_one]; omega) t ht
      rw [Nat.pow_zero, Nat.mul_one, gl_bs] at this
      exact this
    · obtain rfl : b = n := by omega
      rw [pk_cpy_in (by omega) (by omega), gl_up_eq, gl_up_eq]
      congr 1; omega
  · intro r' b hr hb t ht
    have hr10 : r' < 10 := by
      have q1 : 1 * 2 ^ r' ≤ (b + 1) * 2 ^ r' := Nat.mul_le_mul_right _ (by omega)
      exact (Nat.pow_lt_pow_iff_right (a := 2) (by decide)).mp (show 2 ^ r' < 2 ^ 10 by omega)
    rw [gl_u2_ne (by omega), gl_up_ne (by omega), gl_m1_o (by omega) (by omega), gl_u2_ne (by omega), hsm r' b hb t ht]
    rw [gl_bs_congr (K' := (va_up (I (lo + 1)) n ky)) (V' := (va_up (L (lo + 4)) n v)) r' (b * 2 ^ r') (fun i h1 h2 => ?_)]
    rw [Nat.add_mul, Nat.one_mul] at hb
    rw [gl_up_ne (by omega), gl_up_ne (by omega)]
    exact ⟨rfl, rfl⟩
