/-! MODULE GlassLog, piles: begin, add, top of GlassLog$Pile (by gen64.py) -/
set_option maxRecDepth 100000
/-- the pile's rows hold a pile -/
def gl_gpr (Z U : Nat → Int32) : gl_Pl → Prop
  | [] => True
  | (e, r) :: p => Z p.length = nI e ∧ (∀ t, t < 8 → U (p.length * 8 + t) = r t) ∧ gl_gpr Z U p
def gl_gp (I : Nat → Nat → Int32) (p : gl_Pl) : Prop := I 692 3 = nI p.length ∧ I 692 4 = nI (gl_sz p) ∧ gl_gpr (I 694) (I 693) p
theorem gl_gpr_same {Z U Z' U' : Nat → Int32} : ∀ {p : gl_Pl}, gl_gpr Z U p → (∀ k, k < p.length → Z' k = Z k) → (∀ k, k < p.length * 8 → U' k = U k) → gl_gpr Z' U' p
  | [], _, _, _ => trivial
  | (e, r) :: p, h, h1, h2 => by
    simp only [List.length_cons] at h1 h2
    exact ⟨by rw [h1 _ (by omega)]; exact h.1, fun t ht => by rw [h2 _ (by omega)]; exact h.2.1 t ht, gl_gpr_same h.2.2 (fun k hk => h1 k (by omega)) (fun k hk => h2 k (by omega))⟩
theorem gl_gp_eq {I J : Nat → Nat → Int32} {p : gl_Pl} (h : gl_gp I p) (h1 : J 692 = I 692) (h2 : J 693 = I 693) (h3 : J 694 = I 694) : gl_gp J p := by
  unfold gl_gp
  rw [h1, h2, h3]
  exact h
theorem gl_gp_0 {I : Nat → Nat → Int32} : gl_gp (gl_u2 (gl_u2 I 692 3 (nI 0)) 692 4 (nI 0)) [] := by
  refine ⟨?_, ?_, trivial⟩
  · rw [gl_u2_eq, gl_up_ne (by decide), gl_u2_eq, gl_up_eq]; rfl
  · rw [gl_u2_eq, gl_up_eq]; rfl
theorem gl_gp_push {I : Nat → Nat → Int32} {e x at_ : Nat} {p : gl_Pl} (h : gl_gp I p) :
    gl_gp (gl_u2 (gl_u2 (gl_u2 (va_up I 693 (va_cpy (I x) (I 693) at_ (p.length * 8) 8)) 694 p.length (nI e)) 692 3 (nI (p.length + 1))) 692 4 (nI (gl_sz p + 1 * 2 ^ e))) ((e, gl_t8 (fun t => I x (at_ + t))) :: p) := by
  refine ⟨?_, ?_, ?_⟩
  · rw [gl_u2_eq, gl_up_ne (by decide), gl_u2_eq, gl_up_eq]; rfl
  · rw [gl_u2_eq, gl_up_eq, gl_sz, Nat.one_mul, Nat.add_comm]
  · rw [gl_u2_ne (show (694 : Nat) ≠ 692 by decide), gl_u2_ne (show (693 : Nat) ≠ 692 by decide), gl_u2_ne (show (694 : Nat) ≠ 692 by decide), gl_u2_ne (show (693 : Nat) ≠ 692 by decide), gl_u2_eq, gl_u2_ne (show (693 : Nat) ≠ 694 by decide), gl_up_eq, gl_up_ne (show (694 : Nat) ≠ 693 by decide)]
    refine ⟨gl_up_eq, fun t ht => ?_, gl_gpr_same h.2.2 (fun k hk => gl_up_ne (by omega)) (fun k hk => pk_cpy_out (by omega))⟩
    rw [pk_cpy_in (by omega) (by omega), gl_t8_lt ht]
    congr 1; omega
theorem gl_gp_step {I : Nat → Nat → Int32} {m : Nat → Int32} {e e0 nn : Nat} {r r0 : Nat → Int32} {p : gl_Pl} (h : gl_gp I ((e, r) :: (e0, r0) :: p)) (he : e0 = e) :
    gl_gp (gl_u2 (va_up (gl_m1 (gl_u2 I 692 3 (nI (p.length + 1))) 690 691 m nn) 693 (va_cpy (gl_join (fun t => (gl_u2 I 692 3 (nI (p.length + 1))) 693 (p.length * 8 + t)) (fun t => (gl_u2 I 692 3 (nI (p.length + 1))) 693 ((p.length + 1) * 8 + t))) ((gl_u2 I 692 3 (nI (p.length + 1))) 693) 0 (p.length * 8) 8)) 694 p.length (nI (e0 + 1))) ((e0 + 1, gl_t8 (gl_join r0 r)) :: p) := by
  obtain ⟨-, hn, hz, hr, hz0, hr0, hp⟩ := h
  simp only [List.length_cons] at hr
  rw [gl_u2_ne (show (693 : Nat) ≠ 692 by decide)]
  have e4 : gl_join (fun t => I 693 (p.length * 8 + t)) (fun t => I 693 ((p.length + 1) * 8 + t)) = gl_join r0 r := gl_join_congr (fun t ht => hr0 t ht) (fun t ht => hr t ht)
  rw [e4]
  refine ⟨?_, ?_, ?_⟩
  · rw [gl_u2_ne (show (692 : Nat) ≠ 694 by decide), gl_up_ne (show (692 : Nat) ≠ 693 by decide), gl_m1_o (by decide) (by decide), gl_u2_eq, gl_up_eq]; rfl
  · rw [gl_u2_ne (show (692 : Nat) ≠ 694 by decide), gl_up_ne (show (692 : Nat) ≠ 693 by decide), gl_m1_o (by decide) (by decide), gl_u2_eq, gl_up_ne (by decide), hn, he, gl_sz, gl_sz, gl_sz, Nat.pow_succ]
    congr 1; omega
  · rw [gl_u2_eq, gl_u2_ne (show (693 : Nat) ≠ 694 by decide), gl_up_eq, gl_up_ne (show (694 : Nat) ≠ 693 by decide), gl_m1_o (by decide) (by decide), gl_u2_ne (show (694 : Nat) ≠ 692 by decide)]
    refine ⟨gl_up_eq, fun t ht => ?_, gl_gpr_same hp (fun k hk => gl_up_ne (by omega)) (fun k hk => pk_cpy_out (by omega))⟩
    rw [pk_cpy_in (by omega) (by omega), gl_t8_lt ht]
    congr 1; omega
theorem gl_dm {n m : Nat} : n / m * m = n ↔ n % m = 0 := by
  have := Nat.div_add_mod n m
  rw [Nat.mul_comm] at this
  omega
set_option maxHeartbeats 4000000 in
set_option maxRecDepth 100000 in
theorem ct_X7_begin {l : Launch} {δ : gl_Del} {Λ : gl_Lay} {I : Nat → Nat → Int32} {L : Nat → Nat → Int64} {B : Nat → Nat → Bool} {R : Nat → Nat → Option Nat} (h : Nat) (hh : 1 ≤ h) (hG : gl_GL Λ R) : gl_Ct l δ yX7_begin (ws_ yX7_begin cX7_begin 1 none) (gl_rm h 0 0) 0 0 [.ref 692] (Λ, I, L, B, R) (gl_Qv fun S => S = (Λ, gl_u2 (gl_u2 I 692 3 (nI 0)) 692 4 (nI 0), L, B, R)) := by
  refine gl_of (by decide) (Nat.le_of_ble_eq_true rfl) rfl ?_
  intro κ C hQ hlκ hδκ hnL hini
  change gl_Cx κ RX7 _ _ _ at C
  refine j_aload_n C dX7_begin_0 rfl 1 rfl ?_
  refine j_iconst (v := nI 0) C dX7_begin_1 (by decide) 2 rfl ?_
  refine pf_X7_22 C hG.p0 dX7_begin_2 5 rfl ?_
  refine j_aload_n C dX7_begin_5 rfl 6 rfl ?_
  refine j_iconst (v := nI 0) C dX7_begin_6 (by decide) 7 rfl ?_
  refine pf_X7_26 C hG.p0 dX7_begin_7 10 rfl ?_
  exact j_ret C hQ rfl (by omega) (by omega) dX7_begin_10
set_option maxHeartbeats 4000000 in
set_option maxRecDepth 100000 in
theorem ct_X7_add {l : Launch} {δ : gl_Del} {Λ : gl_Lay} {I : Nat → Nat → Int32} {L : Nat → Nat → Int64} {B : Nat → Nat → Bool} {R : Nat → Nat → Option Nat} {p : gl_Pl} {e x nx_ at_ : Nat} (h : Nat) (hh : 5 ≤ h) (hG : gl_GL Λ R) (hp : gl_gp I p) (hln : p.length < 63) (hsz : gl_sz p + 2 ^ e ≤ 1000) (hx : Λ.2 x = (0, nx_)) (hat : at_ + 8 ≤ nx_) (hnx : nx_ < 2 ^ 31) : gl_Ct l δ yX7_add (ws_ yX7_add cX7_add 4 none) (gl_rm h 0 0) 0 0 [.ref 692, .int (nI e), .ref x, .int (nI at_)] (Λ, I, L, B, R) (gl_Qv fun S => ∃ I', S = (Λ, I', L, B, R) ∧ gl_fr 690 695 I I' ∧ gl_gp I' (gl_lay (gl_sz p) e (fun t => I x (at_ + t)) p)) := by
  refine gl_of (by decide) (Nat.le_of_ble_eq_true rfl) rfl ?_
  intro κ C hQ hlκ hδκ hnL hini
  change gl_Cx κ RX7 _ _ _ at C
  have h0e : 0 < 2 ^ e := Nat.two_pow_pos e
  have h10_ : (2 : Nat) ^ 10 = 1024 := by decide
  have he10 : e < 10 := (Nat.pow_lt_pow_iff_right (a := 2) (by decide)).mp (show 2 ^ e < 2 ^ 10 by omega)
  obtain ⟨nx, hnx0⟩ : ∃ nx, nx = gl_sz p + 2 ^ e := ⟨_, rfl⟩
  have merge : ∀ (p1 : gl_Pl) (e1 : Nat) (r1 : Nat → Int32) (I1 : Nat → Nat → Int32), gl_gp I1 ((e1, r1) :: p1) → gl_fr 690 695 I I1 → gl_sz ((e1, r1) :: p1) = nx → p1.length < 63 → gl_mg nx e1 r1 p1 = gl_lay (gl_sz p) e (fun t => I x (at_ + t)) p → gl_J κ 0 0 (Λ, I1, L, B, R) 50 [some (.ref 692), some (.int (nI e)), some (.ref x), some (.int (nI at_))] [] := by
    intro p1
    induction p1 with
    | nil =>
      intro e1 r1 I1 hm hf hnx hlen htg
      have hb : I1 692 3 = nI 1 := hm.1
      refine j_aload_n C dX7_add_50 rfl 51 rfl ?_
      refine gf_X7_22 C hG.p0 dX7_add_51 54 rfl ?_
      rw [hb]
      refine j_iconst (v := nI 1) C dX7_add_54 (by decide) 55 rfl ?_
      refine n_icmp_le C 194 58 dX7_add_55 (by decide) rfl (by omega) (by omega) (fun c_55 => ?_) (fun c_55 => ?_)
      · exact j_ret C hQ ⟨_, rfl, hf, by rw [← htg]; exact hm⟩ (by omega) (by omega) dX7_add_194
      · exact absurd c_55 (by omega)
    | cons pr p1 ih =>
      obtain ⟨e2, r2⟩ := pr
      intro e1 r1 I1 hm hf hnx hlen htg
      obtain ⟨q, hq⟩ : ∃ q, q = p1.length := ⟨_, rfl⟩
      have hb : I1 692 3 = nI (q + 2) := by rw [hq]; exact hm.1
      have hn : I1 692 4 = nI nx := by rw [← hnx]; exact hm.2.1
      have hz : I1 694 (q + 1) = nI e1 := by rw [hq]; exact hm.2.2.1
      have hz0 : I1 694 q = nI e2 := by rw [hq]; exact hm.2.2.2.2.1
      have hnx1 : 2 ^ e1 + (2 ^ e2 + gl_sz p1) = nx := hnx
      have hlen1 : q + 1 < 63 := by rw [hq]; exact hlen
      have h10 : (2 : Nat) ^ 10 = 1024 := by decide
      have h01 : 0 < 2 ^ e1 := Nat.two_pow_pos e1
      have h02 : 0 < 2 ^ e2 := Nat.two_pow_pos e2
      have he1 : e1 < 10 := (Nat.pow_lt_pow_iff_right (a := 2) (by decide)).mp (show 2 ^ e1 < 2 ^ 10 by omega)
      have he2 : e2 < 10 := (Nat.pow_lt_pow_iff_right (a := 2) (by decide)).mp (show 2 ^ e2 < 2 ^ 10 by omega)
      refine j_aload_n C dX7_add_50 rfl 51 rfl ?_
      refine gf_X7_22 C hG.p0 dX7_add_51 54 rfl ?_
      rw [hb]
      refine j_iconst (v := nI 1) C dX7_add_54 (by decide) 55 rfl ?_
      refine n_icmp_le C 194 58 dX7_add_55 (by decide) rfl (by omega) (by omega) (fun c_55 => ?_) (fun c_55 => ?_)
      · exact absurd c_55 (by omega)
      · refine j_aload_n C dX7_add_58 rfl 59 rfl ?_
        refine gf_X7_15 C hG.p0 hG.pr2 dX7_add_59 62 rfl ?_
        refine j_aload_n C dX7_add_62 rfl 63 rfl ?_
        refine gf_X7_22 C hG.p0 dX7_add_63 66 rfl ?_
        rw [hb]
        refine j_iconst (v := nI 2) C dX7_add_66 (by decide) 67 rfl ?_
        refine n_isub C dX7_add_67 (by omega) 68 rfl ?_
        rw [show q + 2 - 2 = q by omega]
        refine j_iald C hG.p2 (by omega) (by decide) dX7_add_68 69 rfl ?_
        rw [hz0]
        refine j_aload_n C dX7_add_69 rfl 70 rfl ?_
        refine gf_X7_15 C hG.p0 hG.pr2 dX7_add_70 73 rfl ?_
        refine j_aload_n C dX7_add_73 rfl 74 rfl ?_
        refine gf_X7_22 C hG.p0 dX7_add_74 77 rfl ?_
        rw [hb]
        refine j_iconst (v := nI 1) C dX7_add_77 (by decide) 78 rfl ?_
        refine n_isub C dX7_add_78 (by omega) 79 rfl ?_
        rw [show q + 2 - 1 = q + 1 by omega]
        refine j_iald C hG.p2 (by omega) (by decide) dX7_add_79 80 rfl ?_
        rw [hz]
        refine n_icmp_ne C 194 83 dX7_add_80 (by decide) rfl (by omega) (by omega) (fun c_80 => ?_) (fun c_80 => ?_)
        · exact j_ret C hQ ⟨_, rfl, hf, by rw [← htg, gl_mg, if_neg (fun w => c_80 w.1)]; exact hm⟩ (by omega) (by omega) dX7_add_194
        · refine j_aload_n C dX7_add_83 rfl 84 rfl ?_
          refine gf_X7_26 C hG.p0 dX7_add_84 87 rfl ?_
          rw [hn]
          refine j_aload_n C dX7_add_87 rfl 88 rfl ?_
          refine gf_X7_15 C hG.p0 hG.pr2 dX7_add_88 91 rfl ?_
          refine j_aload_n C dX7_add_91 rfl 92 rfl ?_
          refine gf_X7_22 C hG.p0 dX7_add_92 95 rfl ?_
          rw [hb]
          refine j_iconst (v := nI 1) C dX7_add_95 (by decide) 96 rfl ?_
          refine n_isub C dX7_add_96 (by omega) 97 rfl ?_
          rw [show q + 2 - 1 = q + 1 by omega]
          refine j_iald C hG.p2 (by omega) (by decide) dX7_add_97 98 rfl ?_
          rw [hz]
          refine j_iconst (v := nI 1) C dX7_add_98 (by decide) 99 rfl ?_
          refine n_iadd C dX7_add_99 100 rfl ?_
          refine n_ishr C dX7_add_100 (by omega) (by omega) 101 rfl ?_
          refine j_aload_n C dX7_add_101 rfl 102 rfl ?_
          refine gf_X7_15 C hG.p0 hG.pr2 dX7_add_102 105 rfl ?_
          refine j_aload_n C dX7_add_105 rfl 106 rfl ?_
          refine gf_X7_22 C hG.p0 dX7_add_106 109 rfl ?_
          rw [hb]
          refine j_iconst (v := nI 1) C dX7_add_109 (by decide) 110 rfl ?_
          refine n_isub C dX7_add_110 (by omega) 111 rfl ?_
          rw [show q + 2 - 1 = q + 1 by omega]
          refine j_iald C hG.p2 (by omega) (by decide) dX7_add_111 112 rfl ?_
          rw [hz]
          refine j_iconst (v := nI 1) C dX7_add_112 (by decide) 113 rfl ?_
          refine n_iadd C dX7_add_113 114 rfl ?_
          refine n_ishl C dX7_add_114 (by omega) (Nat.lt_of_le_of_lt (Nat.div_mul_le_self _ _) (by omega)) 115 rfl ?_
          refine j_aload_n C dX7_add_115 rfl 116 rfl ?_
          refine gf_X7_26 C hG.p0 dX7_add_116 119 rfl ?_
          rw [hn]
          refine n_icmp_ne C 194 122 dX7_add_119 (by decide) rfl (Nat.lt_of_le_of_lt (Nat.div_mul_le_self _ _) (by omega)) (by omega) (fun c_119 => ?_) (fun c_119 => ?_)
          · exact j_ret C hQ ⟨_, rfl, hf, by rw [← htg, gl_mg, if_neg (fun w => c_119 (gl_dm.mpr w.2))]; exact hm⟩ (by omega) (by omega) dX7_add_194
          · refine j_aload_n C dX7_add_122 rfl 123 rfl ?_
            refine j_dup C dX7_add_123 rfl 124 rfl ?_
            refine gf_X7_22 C hG.p0 dX7_add_124 127 rfl ?_
            rw [hb]
            refine j_iconst (v := nI 1) C dX7_add_127 (by decide) 128 rfl ?_
            refine n_isub C dX7_add_128 (by omega) 129 rfl ?_
            rw [show q + 2 - 1 = q + 1 by omega]
            refine pf_X7_22 C hG.p0 dX7_add_129 132 rfl ?_
            refine j_aload_n C dX7_add_132 rfl 133 rfl ?_
            refine gf_X7_18 C hG.p0 hG.pr0 dX7_add_133 136 rfl ?_
            refine j_aload_n C dX7_add_136 rfl 137 rfl ?_
            refine gf_X7_9 C hG.p0 hG.pr1 dX7_add_137 140 rfl ?_
            refine j_aload_n C dX7_add_140 rfl 141 rfl ?_
            refine gf_X7_22 C hG.p0 dX7_add_141 144 rfl ?_
            rw [gl_u2_eq, gl_up_eq]
            refine j_iconst (v := nI 1) C dX7_add_144 (by decide) 145 rfl ?_
            refine n_isub C dX7_add_145 (by omega) 146 rfl ?_
            rw [show q + 1 - 1 = q by omega]
            refine j_bipush (v := nI 8) C dX7_add_146 (by decide) 148 rfl ?_
            refine n_imul C dX7_add_148 149 rfl ?_
            refine j_aload_n C dX7_add_149 rfl 150 rfl ?_
            refine gf_X7_9 C hG.p0 hG.pr1 dX7_add_150 153 rfl ?_
            refine j_aload_n C dX7_add_153 rfl 154 rfl ?_
            refine gf_X7_22 C hG.p0 dX7_add_154 157 rfl ?_
            rw [gl_u2_eq, gl_up_eq]
            refine j_bipush (v := nI 8) C dX7_add_157 (by decide) 159 rfl ?_
            refine n_imul C dX7_add_159 160 rfl ?_
            refine j_aload_n C dX7_add_160 rfl 161 rfl ?_
            refine gf_X7_9 C hG.p0 hG.pr1 dX7_add_161 164 rfl ?_
            refine j_aload_n C dX7_add_164 rfl 165 rfl ?_
            refine gf_X7_22 C hG.p0 dX7_add_165 168 rfl ?_
            rw [gl_u2_eq, gl_up_eq]
            refine j_iconst (v := nI 1) C dX7_add_168 (by decide) 169 rfl ?_
            refine n_isub C dX7_add_169 (by omega) 170 rfl ?_
            rw [show q + 1 - 1 = q by omega]
            refine j_bipush (v := nI 8) C dX7_add_170 (by decide) 172 rfl ?_
            refine n_imul C dX7_add_172 173 rfl ?_
            refine j_cv C (cs_X7_35 C (ct_X6_join (I := gl_u2 I1 692 3 (nI (q + 1))) (nx := 512) (ny := 512) (nt := 512) (h - 1) (by omega) hG.mx hG.p1 (by decide) (by omega) (by decide) hG.p1 (by decide) (by omega) (by decide) hG.p1 (by decide) (by omega) (by decide)) hG.mx.1 rfl (by omega) (by omega) (by omega) rfl (Nat.le_of_ble_eq_true rfl) dX7_add_173) 176 rfl ?_
            rintro _ rfl
            refine j_aload_n C dX7_add_176 rfl 177 rfl ?_
            refine gf_X7_15 C hG.p0 hG.pr2 dX7_add_177 180 rfl ?_
            refine j_aload_n C dX7_add_180 rfl 181 rfl ?_
            refine gf_X7_22 C hG.p0 dX7_add_181 184 rfl ?_
            rw [gl_up_ne (show (692 : Nat) ≠ 693 by decide), gl_m1_o (by decide) (by decide), gl_u2_eq, gl_up_eq]
            refine j_iconst (v := nI 1) C dX7_add_184 (by decide) 185 rfl ?_
            refine n_isub C dX7_add_185 (by omega) 186 rfl ?_
            rw [show q + 1 - 1 = q by omega]
            refine j_dup2 C dX7_add_186 rfl rfl 187 rfl ?_
            refine j_iald C hG.p2 (by omega) (by decide) dX7_add_187 188 rfl ?_
            rw [gl_up_ne (show (694 : Nat) ≠ 693 by decide), gl_m1_o (by decide) (by decide), gl_u2_ne (show (694 : Nat) ≠ 692 by decide), hz0]
            refine j_iconst (v := nI 1) C dX7_add_188 (by decide) 189 rfl ?_
            refine n_iadd C dX7_add_189 190 rfl ?_
            refine j_iast C hG.p2 (by omega) (by decide) dX7_add_190 191 rfl ?_
            refine j_goto (tgt := 50) C dX7_add_191 (by decide) ?_
            have hnx2 : nx % 2 ^ (e1 + 1) = 0 := gl_dm.mp c_119
            subst hq
            refine ih (e2 + 1) _ _ (gl_gp_step hm c_80) ((((hf.u2 (by decide) (by decide)).m1 (by decide) (by decide)).up (by decide) (by decide)).u2 (by decide) (by decide)) ?_ (by simp only [List.length_cons] at hlen ⊢; omega) ?_
            · rw [← hnx, gl_sz, gl_sz, gl_sz, c_80, Nat.pow_succ]; omega
            · rw [← htg, gl_mg, if_pos ⟨c_80, hnx2⟩, c_80]
  refine j_aload_n C dX7_add_0 rfl 1 rfl ?_
  refine j_iload_n C dX7_add_1 rfl 2 rfl ?_
  refine j_aload_n C dX7_add_2 rfl 3 rfl ?_
  refine gf_X7_9 C hG.p0 hG.pr1 dX7_add_3 6 rfl ?_
  refine j_aload_n C dX7_add_6 rfl 7 rfl ?_
  refine gf_X7_22 C hG.p0 dX7_add_7 10 rfl ?_
  rw [hp.1]
  refine j_bipush (v := nI 8) C dX7_add_10 (by decide) 12 rfl ?_
  refine n_imul C dX7_add_12 13 rfl ?_
  refine j_bipush (v := nI 8) C dX7_add_13 (by decide) 15 rfl ?_
  refine j_copyI C q538 hx hG.p1 (by omega) (by omega) hnx (by decide) (by omega) (Nat.le_of_ble_eq_true rfl) dX7_add_15 18 rfl ?_
  refine j_aload_n C dX7_add_18 rfl 19 rfl ?_
  refine gf_X7_15 C hG.p0 hG.pr2 dX7_add_19 22 rfl ?_
  refine j_aload_n C dX7_add_22 rfl 23 rfl ?_
  refine gf_X7_22 C hG.p0 dX7_add_23 26 rfl ?_
  rw [gl_up_ne (show (692 : Nat) ≠ 693 by decide), hp.1]
  refine j_iload_n C dX7_add_26 rfl 27 rfl ?_
  refine j_iast C hG.p2 (by omega) (by decide) dX7_add_27 28 rfl ?_
  refine j_aload_n C dX7_add_28 rfl 29 rfl ?_
  refine j_dup C dX7_add_29 rfl 30 rfl ?_
  refine gf_X7_22 C hG.p0 dX7_add_30 33 rfl ?_
  rw [gl_u2_ne (show (692 : Nat) ≠ 694 by decide), gl_up_ne (show (692 : Nat) ≠ 693 by decide), hp.1]
  refine j_iconst (v := nI 1) C dX7_add_33 (by decide) 34 rfl ?_
  refine n_iadd C dX7_add_34 35 rfl ?_
  refine pf_X7_22 C hG.p0 dX7_add_35 38 rfl ?_
  refine j_aload_n C dX7_add_38 rfl 39 rfl ?_
  refine j_dup C dX7_add_39 rfl 40 rfl ?_
  refine gf_X7_26 C hG.p0 dX7_add_40 43 rfl ?_
  rw [gl_u2_eq, gl_up_ne (show (4 : Nat) ≠ 3 by decide), gl_u2_ne (show (692 : Nat) ≠ 694 by decide), gl_up_ne (show (692 : Nat) ≠ 693 by decide), hp.2.1]
  refine j_iconst (v := nI 1) C dX7_add_43 (by decide) 44 rfl ?_
  refine j_iload_n C dX7_add_44 rfl 45 rfl ?_
  refine n_ishl C dX7_add_45 (by omega) (by omega) 46 rfl ?_
  refine n_iadd C dX7_add_46 47 rfl ?_
  refine pf_X7_26 C hG.p0 dX7_add_47 50 rfl ?_
  exact merge p e _ _ (gl_gp_push hp) ((((gl_fr.rf.up (by decide) (by decide)).u2 (by decide) (by decide)).u2 (by decide) (by decide)).u2 (by decide) (by decide)) (by rw [hnx0, gl_sz]; omega) hln (by rw [hnx0]; rfl)
set_option maxHeartbeats 4000000 in
set_option maxRecDepth 100000 in
theorem ct_X7_top {l : Launch} {δ : gl_Del} {Λ : gl_Lay} {I : Nat → Nat → Int32} {L : Nat → Nat → Int64} {B : Nat → Nat → Bool} {R : Nat → Nat → Option Nat} {p : gl_Pl} {to nt at_ : Nat} (h : Nat) (hh : 5 ≤ h) (hG : gl_GL Λ R) (hp : gl_gp I p) (hln : p.length < 64) (ht : Λ.2 to = (0, nt)) (hto_ : to < 690 ∨ 695 ≤ to) (hat : at_ + 8 ≤ nt) (hnt : nt < 2 ^ 31) : gl_Ct l δ yX7_top (ws_ yX7_top cX7_top 4 none) (gl_rm h 0 0) 0 0 [.ref 692, .ref to, .int (nI at_)] (Λ, I, L, B, R) (gl_Qv fun S => ∃ I', S = (Λ, I', L, B, R) ∧ (∀ c, c ≠ 690 → c ≠ 691 → c ≠ to → I' c = I c) ∧ I' to = va_cpy (gl_top p) (I to) 0 at_ 8) := by
  refine gl_of (by decide) (Nat.le_of_ble_eq_true rfl) rfl ?_
  intro κ C hQ hlκ hδκ hnL hini
  change gl_Cx κ RX7 _ _ _ at C
  have loop : ∀ (p1 : gl_Pl) (acc : Nat → Int32) (I1 : Nat → Nat → Int32) (v : Int32), gl_gpr (I 694) (I 693) p1 → p1.length < 64 → (∀ c, c ≠ 690 → c ≠ 691 → c ≠ to → I1 c = I c) → I1 to = va_cpy acc (I to) 0 at_ 8 → gl_topf acc p1 = gl_top p → v = (match p1 with | [] => -1 | _ :: q => nI q.length) → gl_J κ 0 0 (Λ, I1, L, B, R) 40 [some (.ref 692), some (.ref to), some (.int (nI at_)), some (.int v)] [] := by
    intro p1
    induction p1 with
    | nil =>
      intro acc I1 v hr1 hlen hI hto htg hv
      subst hv
      refine j_iload_n C dX7_top_40 rfl 41 rfl ?_
      refine j_if_lt C 69 44 dX7_top_41 (by decide) rfl (fun c_41 => ?_) (fun c_41 => ?_)
      · exact j_ret C hQ ⟨_, rfl, hI, by rw [hto, ← htg]; rfl⟩ (by omega) (by omega) dX7_top_69
      · exact absurd (by decide) c_41
    | cons pr p1 ih =>
      obtain ⟨e1_, r1⟩ := pr
      intro acc I1 v hr1 hlen hI hto htg hv
      have hv : v = nI p1.length := hv
      subst hv
      simp only [List.length_cons] at hlen
      have hlenX : p1.length < 63 := by omega
      refine j_iload_n C dX7_top_40 rfl 41 rfl ?_
      refine j_if_lt C 69 44 dX7_top_41 (by decide) rfl (fun c_41 => ?_) (fun c_41 => ?_)
      · exact absurd c_41 (nI_pos (by omega))
      · refine j_aload_n C dX7_top_44 rfl 45 rfl ?_
        refine gf_X7_18 C hG.p0 hG.pr0 dX7_top_45 48 rfl ?_
        refine j_aload_n C dX7_top_48 rfl 49 rfl ?_
        refine gf_X7_9 C hG.p0 hG.pr1 dX7_top_49 52 rfl ?_
        refine j_iload_n C dX7_top_52 rfl 53 rfl ?_
        refine j_bipush (v := nI 8) C dX7_top_53 (by decide) 55 rfl ?_
        refine n_imul C dX7_top_55 56 rfl ?_
        refine j_aload_n C dX7_top_56 rfl 57 rfl ?_
        refine j_iload_n C dX7_top_57 rfl 58 rfl ?_
        refine j_aload_n C dX7_top_58 rfl 59 rfl ?_
        refine j_iload_n C dX7_top_59 rfl 60 rfl ?_
        refine j_cv C (cs_X7_35 C (ct_X6_join (I := I1) (nx := 512) (ny := nt) (nt := nt) (h - 1) (by omega) hG.mx hG.p1 (by decide) (by omega) (by decide) ht (by omega) hat hnt ht (by omega) hat hnt) hG.mx.1 rfl (by omega) (by omega) (by omega) rfl (Nat.le_of_ble_eq_true rfl) dX7_top_60) 63 rfl ?_
        rintro _ rfl
        refine j_iinc C dX7_top_63 rfl rfl (by rw [hnL]; decide) rfl 66 rfl ?_
        refine j_goto (tgt := 40) C dX7_top_66 (by decide) ?_
        have e1 : gl_join (fun t => I1 693 (p1.length * 8 + t)) (fun t => I1 to (at_ + t)) = gl_join r1 acc := by
          rw [hI 693 (by decide) (by decide) (by omega), hto]
          exact gl_join_congr (fun t ht_ => hr1.2.1 t ht_) (fun t ht_ => by show va_cpy acc (I to) 0 at_ 8 (at_ + t) = acc t; rw [pk_cpy_in (by omega) (by omega)]; congr 1; omega)
        rw [e1]
        refine ih (gl_join r1 acc) _ _ hr1.2.2 (by omega) (fun c h1 h2 h3 => ?_) ?_ ?_ ?_
        · rw [gl_up_ne h3, gl_m1_o h1 h2]; exact hI c h1 h2 h3
        · rw [gl_up_eq, hto, gl_cpy_cpy]
        · rw [← htg]; rfl
        · cases p1 with
          | nil => rfl
          | cons z zs => exact pk_m1 _
  refine j_aload_n C dX7_top_0 rfl 1 rfl ?_
  refine j_iload_n C dX7_top_1 rfl 2 rfl ?_
  refine j_cv C (cs_X7_41 C (ct_X0_clear (h - 1) (by omega) ht hat hnt) rfl (by omega) (by omega) (by omega) rfl (Nat.le_of_ble_eq_true rfl) dX7_top_2) 5 rfl ?_
  rintro _ rfl
  refine j_aload_n C dX7_top_5 rfl 6 rfl ?_
  refine gf_X7_22 C hG.p0 dX7_top_6 9 rfl ?_
  rw [gl_up_ne (show (692 : Nat) ≠ to by omega), hp.1]
  refine n_if_ne C 13 12 dX7_top_9 (by decide) rfl (by omega) (fun c_9 => ?_) (fun c_9 => ?_)
  · obtain ⟨e0, r0, p0, rfl⟩ : ∃ e0 r0 p0, p = (e0, r0) :: p0 := by
      cases p with
      | nil => exact absurd rfl c_9
      | cons z zs => exact ⟨z.1, z.2, zs, rfl⟩
    simp only [List.length_cons] at hln c_9
    have hp1 : I 692 3 = nI (p0.length + 1) := hp.1
    refine j_aload_n C dX7_top_13 rfl 14 rfl ?_
    refine gf_X7_9 C hG.p0 hG.pr1 dX7_top_14 17 rfl ?_
    refine j_aload_n C dX7_top_17 rfl 18 rfl ?_
    refine gf_X7_22 C hG.p0 dX7_top_18 21 rfl ?_
    rw [gl_up_ne (show (692 : Nat) ≠ to by omega), hp1]
    refine j_iconst (v := nI 1) C dX7_top_21 (by decide) 22 rfl ?_
    refine n_isub C dX7_top_22 (by omega) 23 rfl ?_
    rw [show p0.length + 1 - 1 = p0.length by omega]
    refine j_bipush (v := nI 8) C dX7_top_23 (by decide) 25 rfl ?_
    refine n_imul C dX7_top_25 26 rfl ?_
    refine j_aload_n C dX7_top_26 rfl 27 rfl ?_
    refine j_iload_n C dX7_top_27 rfl 28 rfl ?_
    refine j_bipush (v := nI 8) C dX7_top_28 (by decide) 30 rfl ?_
    refine j_copyI C q538 hG.p1 ht (by omega) hat (by decide) hnt (by omega) (Nat.le_of_ble_eq_true rfl) dX7_top_30 33 rfl ?_
    refine j_aload_n C dX7_top_33 rfl 34 rfl ?_
    refine gf_X7_22 C hG.p0 dX7_top_34 37 rfl ?_
    rw [gl_up_ne (show (692 : Nat) ≠ to by omega), gl_up_ne (show (692 : Nat) ≠ to by omega), hp1]
    refine j_iconst (v := nI 2) C dX7_top_37 (by decide) 38 rfl ?_
    refine j_isub C dX7_top_38 39 rfl ?_
    rw [gl_m2]
    refine j_istore_n C dX7_top_39 (Nat.le_of_ble_eq_true rfl) (by rw [hnL]; decide) rfl 40 rfl ?_
    refine loop p0 r0 _ _ hp.2.2.2.2 (by omega) (fun c h1 h2 h3 => by rw [gl_up_ne h3, gl_up_ne h3]) ?_ rfl ?_
    · rw [gl_up_eq, gl_up_eq, gl_up_ne (show (693 : Nat) ≠ to by omega)]
      funext k
      by_cases hk_ : at_ ≤ k ∧ k < at_ + 8
      · rw [pk_cpy_in hk_.1 hk_.2, pk_cpy_in hk_.1 hk_.2]
        have := hp.2.2.2.1 (k - at_) (by omega)
        rw [show 0 + (k - at_) = k - at_ by omega, ← this]
      · rw [pk_cpy_out (by omega), pk_cpy_out (by omega), pk_cpy_out (by omega)]
    · cases p0 with
      | nil => rfl
      | cons z zs => exact pk_m1 _
  · exact j_ret C hQ ⟨_, rfl, fun c h1 h2 h3 => gl_up_ne h3, by rw [gl_up_eq, show p = [] from List.length_eq_zero_iff.mp c_9]; rfl⟩ (by omega) (by omega) dX7_top_12
