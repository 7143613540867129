/-! MODULE Model, piles: top, layLog (by gen35.py) -/
set_option maxRecDepth 100000
theorem gl_cpy_s0 {a b : Nat → Int32} {k : Nat} : va_up (va_cpy a b 0 0 k) k (a k) = va_cpy a b 0 0 (k + 1) := by
  have := gl_cpy_s (a := a) (b := b) (dp := 0) (k := k)
  rw [Nat.zero_add] at this
  exact this
theorem gl_cpy_lt {a b : Nat → Int32} {t n : Nat} (h : t < n) : va_cpy a b 0 0 n t = a t := by
  rw [pk_cpy_in (Nat.zero_le _) (by omega)]
  congr 1; omega
theorem gl_m2 (n : Nat) : nI (n + 1) - nI 2 = nI n + (-1) := by
  rw [nI_succ, show nI 2 = (2 : Int32) from rfl]
  grind
set_option maxHeartbeats 4000000 in
set_option maxRecDepth 100000 in
theorem ct_X9_top {l : Launch} {δ : gl_Del} {I : Nat → Nat → Int32} {L : Nat → Nat → Int64} {B : Nat → Nat → Bool} {p : gl_Pl} {to nt at_ : Nat} (h : Nat) (hh : 4 ≤ h) (hp : gl_mp I p) (hln : p.length ≤ 64) (ht : gl_msh to = (0, nt)) (ht0 : to ≠ 0) (ht9 : to ≠ 39) (htm : to ≠ 40) (ht4 : to ≠ 44) (ht5 : to ≠ 45) (hat : at_ + 8 ≤ nt) (hnt : nt < 2 ^ 31) : gl_Ct l δ yX9_top (ws_ yX9_top cX9_top 4 none) (gl_rm h 0 0) 0 0 [.ref 0, .ref to, .int (nI at_)] (gl_mL, I, L, B, gl_mR) (gl_Qv fun S => ∃ I', S = (gl_mL, I', L, B, gl_mR) ∧ gl_fq [39, 40, 45, to] [] I I' ∧ I' to = va_cpy (gl_top p) (I to) 0 at_ 8) := by
  refine gl_of (by decide) (Nat.le_of_ble_eq_true rfl) rfl ?_
  intro κ C hQ hlκ hδκ hnL hini
  change gl_Cx κ RX9 _ _ _ at C
  have partE : ∀ (I1 : Nat → Nat → Int32) (acc : Nat → Int32) (x3 : Int32), gl_fq [39, 40, 45, to] [] I I1 → I1 to = (va_cpy (fun _ => nI 0) (I to) 0 at_ 8) → (∀ t, t < 8 → I1 45 t = acc t) → acc = gl_top p → gl_J κ 0 0 (gl_mL, I1, L, B, gl_mR) 103 [some (.ref 0), some (.ref to), some (.int (nI at_)), some (.int x3)] [] := by
    intro I1 acc x3 hf hz ha hac
    have loopE : ∀ k j : Nat, j + k = 8 → gl_J κ 0 0 (gl_mL, va_up I1 to (va_cpy (I1 45) (I1 to) 0 at_ j), L, B, gl_mR) 105 [some (.ref 0), some (.ref to), some (.int (nI at_)), some (.int (nI j))] [] := by
      intro k
      induction k with
      | zero =>
        intro j hj
        have hjN : j = 8 := by omega
        subst hjN
        refine j_iload_n C dX9_top_105 rfl 106 rfl ?_
        refine j_bipush (v := nI 8) C dX9_top_106 (by decide) 108 rfl ?_
        refine n_icmp_ge C 128 111 dX9_top_108 (by decide) rfl (by omega) (by omega) (fun c_108 => ?_) (fun c_108 => ?_)
        · exact j_ret C hQ ⟨_, rfl, hf.up (by simp) ht0, by rw [gl_up_eq, hz, gl_cpy_cpy, gl_cpy_congr ha, hac]⟩ (by omega) (by omega) dX9_top_128
        · exact absurd c_108 (by omega)
      | succ k ih =>
        intro j hj
        refine j_iload_n C dX9_top_105 rfl 106 rfl ?_
        refine j_bipush (v := nI 8) C dX9_top_106 (by decide) 108 rfl ?_
        refine n_icmp_ge C 128 111 dX9_top_108 (by decide) rfl (by omega) (by omega) (fun c_108 => ?_) (fun c_108 => ?_)
        · exact absurd c_108 (by omega)
        · refine j_aload_n C dX9_top_111 rfl 112 rfl ?_
          refine j_iload_n C dX9_top_112 rfl 113 rfl ?_
          refine j_iload_n C dX9_top_113 rfl 114 rfl ?_
          refine n_iadd C dX9_top_114 115 rfl ?_
          refine j_aload_n C dX9_top_115 rfl 116 rfl ?_
          refine gf_X9_145 C rfl rfl dX9_top_116 119 rfl ?_
          refine j_iload_n C dX9_top_119 rfl 120 rfl ?_
          refine j_iald C rfl (by omega) (by decide) dX9_top_120 121 rfl ?_
          rw [gl_up_ne (Ne.symm ht5)]
          refine j_iast C ht (by omega) hnt dX9_top_121 122 rfl ?_
          refine n_iinc C dX9_top_122 rfl (by rw [hnL]; decide) rfl 125 rfl ?_
          refine j_goto (tgt := 105) C dX9_top_125 (by decide) ?_
          rw [gl_u2_up, gl_cpy_s]
          exact ih (j + 1) (by omega)
    refine j_iconst (v := nI 0) C dX9_top_103 (by decide) 104 rfl ?_
    refine j_istore_n C dX9_top_104 (Nat.le_of_ble_eq_true rfl) (by rw [hnL]; decide) rfl 105 rfl ?_
    have := loopE 8 0 rfl
    rw [gl_cpy_0, gl_up_self] at this
    exact this
  have partD : ∀ (p1 : gl_Pl) (acc : Nat → Int32) (I1 : Nat → Nat → Int32), gl_mpr (I 42) (I 43) (I 44) p1 → p1.length < 64 → gl_fq [39, 40, 45, to] [] I I1 → I1 to = (va_cpy (fun _ => nI 0) (I to) 0 at_ 8) → (∀ t, t < 8 → I1 45 t = acc t) → gl_topf acc p1 = gl_top p → gl_J κ 0 0 (gl_mL, I1, L, B, gl_mR) 71 [some (.ref 0), some (.ref to), some (.int (nI at_)), some (.int (nI p1.length + (-1)))] [] := by
    intro p1
    induction p1 with
    | nil =>
      intro acc I1 hm hlen hf hz ha hac
      refine j_iload_n C dX9_top_71 rfl 72 rfl ?_
      refine j_if_lt C 103 75 dX9_top_72 (by decide) rfl (fun c_72 => ?_) (fun c_72 => ?_)
      · exact partE I1 acc _ hf hz ha hac
      · exact absurd (show nI 0 + (-1) < 0 by decide) c_72
    | cons pr p1 ih =>
      obtain ⟨e1, r1⟩ := pr
      intro acc I1 hm hlen hf hz ha hac
      simp only [List.length_cons] at hlen ⊢
      rw [pk_m1]
      have h44 : I1 44 = I 44 := hf.1 44 (by decide) (by simp; omega)
      refine j_iload_n C dX9_top_71 rfl 72 rfl ?_
      refine n_if_lt C 75 dX9_top_72 (tgt := 103) (by decide) rfl (by omega) ?_
      refine j_aload_n C dX9_top_75 rfl 76 rfl ?_
      refine j_aload_n C dX9_top_76 rfl 77 rfl ?_
      refine gf_X9_142 C rfl rfl dX9_top_77 80 rfl ?_
      refine j_bipush (v := nI 8) C dX9_top_80 (by decide) 82 rfl ?_
      refine j_iload_n C dX9_top_82 rfl 83 rfl ?_
      refine n_imul C dX9_top_83 84 rfl ?_
      refine j_aload_n C dX9_top_84 rfl 85 rfl ?_
      refine gf_X9_145 C rfl rfl dX9_top_85 88 rfl ?_
      refine j_iconst (v := nI 0) C dX9_top_88 (by decide) 89 rfl ?_
      refine j_aload_n C dX9_top_89 rfl 90 rfl ?_
      refine gf_X9_145 C rfl rfl dX9_top_90 93 rfl ?_
      refine j_iconst (v := nI 0) C dX9_top_93 (by decide) 94 rfl ?_
      refine j_cv C (cs_X9_204 C (ct_X9_join (I := I1) (nx := 512) (ny := 8) (nt := 8) (h - 1) (by omega) rfl (by decide) (by decide) (by omega) (by decide) rfl (by decide) (by decide) (by decide) (by decide) rfl (by decide) (by decide) (by decide) (by decide)) rfl rfl (by omega) (by omega) (by omega) rfl (Nat.le_of_ble_eq_true rfl) dX9_top_94) 97 rfl ?_
      rintro _ ⟨w, m, rfl⟩
      refine j_iinc C dX9_top_97 rfl rfl (by rw [hnL]; decide) rfl 100 rfl ?_
      refine j_goto (tgt := 71) C dX9_top_100 (by decide) ?_
      refine ih (gl_join r1 acc) _ hm.2.2.2 (by omega) ((hf.wm (by simp) (by simp)).up (by simp) (by decide)) ?_ (fun t ht => ?_) hac
      · rw [gl_up_ne ht5, gl_wm_o ht9 htm]; exact hz
      · rw [gl_up_eq, gl_cpy_lt ht, gl_join_congr (x' := r1) (y' := acc) (fun t ht => by rw [h44]; exact hm.2.2.1 t ht) (fun t ht => by rw [Nat.zero_add]; exact ha t ht)]
  have partC : ∀ (e0 : Nat) (r : Nat → Int32) (p0 : gl_Pl), p = (e0, r) :: p0 → ∀ x3 : Int32, gl_J κ 0 0 (gl_mL, va_up I to (va_cpy (fun _ => nI 0) (I to) 0 at_ 8), L, B, gl_mR) 20 [some (.ref 0), some (.ref to), some (.int (nI at_)), some (.int x3)] [] := by
    intro e0 r p0 hpe x3
    subst hpe
    have hb : I 0 49 = nI (p0.length + 1) := hp.1
    have hm := hp.2
    simp only [List.length_cons] at hln
    have loopC : ∀ k j : Nat, j + k = 8 → gl_J κ 0 0 (gl_mL, va_up (va_up I to (va_cpy (fun _ => nI 0) (I to) 0 at_ 8)) 45 (va_cpy (fun t => I 44 (8 * p0.length + t)) (I 45) 0 0 j), L, B, gl_mR) 30 [some (.ref 0), some (.ref to), some (.int (nI at_)), some (.int (nI j))] [] := by
      intro k
      induction k with
      | zero =>
        intro j hj
        have hjN : j = 8 := by omega
        subst hjN
        refine j_iload_n C dX9_top_30 rfl 31 rfl ?_
        refine j_bipush (v := nI 8) C dX9_top_31 (by decide) 33 rfl ?_
        refine n_icmp_ge C 64 36 dX9_top_33 (by decide) rfl (by omega) (by omega) (fun c_33 => ?_) (fun c_33 => ?_)
        · refine j_aload_n C dX9_top_64 rfl 65 rfl ?_
          refine gf_X9_208 C rfl dX9_top_65 68 rfl ?_
          rw [gl_up_ne (show (0 : Nat) ≠ 45 by decide), gl_up_ne (Ne.symm ht0), hb]
          refine j_iconst (v := nI 2) C dX9_top_68 (by decide) 69 rfl ?_
          refine j_isub C dX9_top_69 70 rfl ?_
          rw [gl_m2]
          refine j_istore_n C dX9_top_70 (Nat.le_of_ble_eq_true rfl) (by rw [hnL]; decide) rfl 71 rfl ?_
          exact partD p0 r _ hm.2.2.2 (by omega) ((gl_fq.rf.up (by simp) ht0).up (by simp) (by decide)) (by rw [gl_up_ne ht5, gl_up_eq]) (fun t ht => by rw [gl_up_eq, gl_cpy_lt ht]; exact hm.2.2.1 t ht) rfl
        · exact absurd c_33 (by omega)
      | succ k ih =>
        intro j hj
        refine j_iload_n C dX9_top_30 rfl 31 rfl ?_
        refine j_bipush (v := nI 8) C dX9_top_31 (by decide) 33 rfl ?_
        refine n_icmp_ge C 64 36 dX9_top_33 (by decide) rfl (by omega) (by omega) (fun c_33 => ?_) (fun c_33 => ?_)
        · exact absurd c_33 (by omega)
        · refine j_aload_n C dX9_top_36 rfl 37 rfl ?_
          refine gf_X9_145 C rfl rfl dX9_top_37 40 rfl ?_
          refine j_iload_n C dX9_top_40 rfl 41 rfl ?_
          refine j_aload_n C dX9_top_41 rfl 42 rfl ?_
          refine gf_X9_142 C rfl rfl dX9_top_42 45 rfl ?_
          refine j_bipush (v := nI 8) C dX9_top_45 (by decide) 47 rfl ?_
          refine j_aload_n C dX9_top_47 rfl 48 rfl ?_
          refine gf_X9_208 C rfl dX9_top_48 51 rfl ?_
          rw [gl_up_ne (show (0 : Nat) ≠ 45 by decide), gl_up_ne (Ne.symm ht0), hb]
          refine j_iconst (v := nI 1) C dX9_top_51 (by decide) 52 rfl ?_
          refine n_isub C dX9_top_52 (by omega) 53 rfl ?_
          rw [show p0.length + 1 - 1 = p0.length by omega]
          refine n_imul C dX9_top_53 54 rfl ?_
          refine j_iload_n C dX9_top_54 rfl 55 rfl ?_
          refine n_iadd C dX9_top_55 56 rfl ?_
          refine j_iald C rfl (by omega) (by decide) dX9_top_56 57 rfl ?_
          rw [gl_up_ne (show (44 : Nat) ≠ 45 by decide), gl_up_ne (Ne.symm ht4)]
          refine j_iast C rfl (by omega) (by decide) dX9_top_57 58 rfl ?_
          refine n_iinc C dX9_top_58 rfl (by rw [hnL]; decide) rfl 61 rfl ?_
          refine j_goto (tgt := 30) C dX9_top_61 (by decide) ?_
          rw [gl_u2_up, gl_cpy_s0 (a := fun t => I 44 (8 * p0.length + t))]
          exact ih (j + 1) (by omega)
    refine j_aload_n C dX9_top_20 rfl 21 rfl ?_
    refine gf_X9_208 C rfl dX9_top_21 24 rfl ?_
    rw [gl_up_ne (Ne.symm ht0), hb]
    refine n_if_ne C 28 27 dX9_top_24 (by decide) rfl (by omega) (fun c_24 => ?_) (fun c_24 => ?_)
    · refine j_iconst (v := nI 0) C dX9_top_28 (by decide) 29 rfl ?_
      refine j_istore_n C dX9_top_29 (Nat.le_of_ble_eq_true rfl) (by rw [hnL]; decide) rfl 30 rfl ?_
      have := loopC 8 0 rfl
      rw [gl_cpy_0, show va_up (va_up I to (va_cpy (fun _ => nI 0) (I to) 0 at_ 8)) 45 (I 45) = va_up I to (va_cpy (fun _ => nI 0) (I to) 0 at_ 8) by rw [← gl_up_ne (f := I) (v := va_cpy (fun _ => nI 0) (I to) 0 at_ 8) (Ne.symm ht5), gl_up_self]] at this
      exact this
    · exact absurd c_24 (by omega)
  have partB : ∀ x3 : Int32, gl_J κ 0 0 (gl_mL, va_up I to (va_cpy (fun _ => nI 0) (I to) 0 at_ 8), L, B, gl_mR) 20 [some (.ref 0), some (.ref to), some (.int (nI at_)), some (.int x3)] [] := by
    intro x3
    cases p with
    | nil =>
      have hb : I 0 49 = nI 0 := hp.1
      refine j_aload_n C dX9_top_20 rfl 21 rfl ?_
      refine gf_X9_208 C rfl dX9_top_21 24 rfl ?_
      rw [gl_up_ne (Ne.symm ht0), hb]
      refine n_if_ne (a := 0) C 28 27 dX9_top_24 (by decide) rfl (by omega) (fun c_24 => ?_) (fun c_24 => ?_)
      · exact absurd rfl c_24
      · exact j_ret C hQ ⟨_, rfl, gl_fq.rf.up (by simp) ht0, gl_up_eq⟩ (by omega) (by omega) dX9_top_27
    | cons pr p0 =>
      obtain ⟨e0, r⟩ := pr
      exact partC e0 r p0 rfl x3
  have loopA : ∀ k j : Nat, j + k = 8 → gl_J κ 0 0 (gl_mL, va_up I to (va_cpy (fun _ => nI 0) (I to) 0 at_ j), L, B, gl_mR) 2 [some (.ref 0), some (.ref to), some (.int (nI at_)), some (.int (nI j))] [] := by
    intro k
    induction k with
    | zero =>
      intro j hj
      have hjN : j = 8 := by omega
      subst hjN
      refine j_iload_n C dX9_top_2 rfl 3 rfl ?_
      refine j_bipush (v := nI 8) C dX9_top_3 (by decide) 5 rfl ?_
      refine n_icmp_ge C 20 8 dX9_top_5 (by decide) rfl (by omega) (by omega) (fun c_5 => ?_) (fun c_5 => ?_)
      · exact partB _
      · exact absurd c_5 (by omega)
    | succ k ih =>
      intro j hj
      refine j_iload_n C dX9_top_2 rfl 3 rfl ?_
      refine j_bipush (v := nI 8) C dX9_top_3 (by decide) 5 rfl ?_
      refine n_icmp_ge C 20 8 dX9_top_5 (by decide) rfl (by omega) (by omega) (fun c_5 => ?_) (fun c_5 => ?_)
      · exact absurd c_5 (by omega)
      · refine j_aload_n C dX9_top_8 rfl 9 rfl ?_
        refine j_iload_n C dX9_top_9 rfl 10 rfl ?_
        refine j_iload_n C dX9_top_10 rfl 11 rfl ?_
        refine n_iadd C dX9_top_11 12 rfl ?_
        refine j_iconst (v := nI 0) C dX9_top_12 (by decide) 13 rfl ?_
        refine j_iast C ht (by omega) hnt dX9_top_13 14 rfl ?_
        refine n_iinc C dX9_top_14 rfl (by rw [hnL]; decide) rfl 17 rfl ?_
        refine j_goto (tgt := 2) C dX9_top_17 (by decide) ?_
        rw [gl_u2_up, gl_cpy_s (a := fun _ => nI 0)]
        exact ih (j + 1) (by omega)
  refine j_iconst (v := nI 0) C dX9_top_0 (by decide) 1 rfl ?_
  refine j_istore_n C dX9_top_1 (Nat.le_of_ble_eq_true rfl) (by rw [hnL]; decide) rfl 2 rfl ?_
  have := loopA 8 0 rfl
  rw [gl_cpy_0, gl_up_self] at this
  exact this
/-- the blocks from a to b, by their rows -/
def gl_ll (f : Nat → Nat → Nat → Int32) (b : Nat) : Nat → Nat → gl_Pl → gl_Pl
  | 0, _, p => p
  | n + 1, a, p => if a < b then gl_ll f b n (a + 2 ^ gl_lv a b) (gl_lay a (gl_lv a b) (f a (gl_lv a b)) p) else p
theorem gl_ll_end {f : Nat → Nat → Nat → Int32} {b n : Nat} {p : gl_Pl} : gl_ll f b n b p = p := by
  cases n with
  | zero => rfl
  | succ n => exact if_neg (Nat.lt_irrefl b)
theorem gl_ll_s {f : Nat → Nat → Nat → Int32} {a b n : Nat} {p : gl_Pl} (h : a < b) : gl_ll f b (n + 1) a p = gl_ll f b n (a + 2 ^ gl_lv a b) (gl_lay a (gl_lv a b) (f a (gl_lv a b)) p) := if_pos h
theorem gl_lay_congr {nx e : Nat} {r r' : Nat → Int32} {p : gl_Pl} (h : ∀ t, t < 8 → r t = r' t) : gl_lay nx e r p = gl_lay nx e r' p := by
  unfold gl_lay
  rw [show gl_t8 r = gl_t8 r' by funext t; unfold gl_t8; by_cases ht : t < 8 <;> simp [ht, h]]
theorem gl_ll_inv {f : Nat → Nat → Nat → Int32} {b : Nat} : ∀ (n a : Nat) (p : gl_Pl), b - a ≤ n → a ≤ b → gl_sz p = a → gl_inc 0 p → gl_sz (gl_ll f b n a p) = b ∧ gl_inc 0 (gl_ll f b n a p)
  | 0, a, p, h, hab, hs, hi => ⟨by show gl_sz p = b; omega, hi⟩
  | n + 1, a, p, h, hab, hs, hi => by
    by_cases hq : a < b
    · rw [gl_ll_s hq]
      have hk := gl_lv_ok hq
      have h0 := Nat.two_pow_pos (gl_lv a b)
      refine gl_ll_inv n _ _ (by omega) hk.2 (by rw [gl_sz_lay, hs]; omega) ?_
      rw [← hs]
      refine gl_inc_lay hi ?_
      rw [hs]
      exact hk.1
    · have : a = b := by omega
      subst this
      rw [gl_ll_end]
      exact ⟨hs, hi⟩
theorem gl_bsP.fq {I I' : Nat → Nat → Int32} {to at_ lv : Nat} {r : Nat → Int32} (h : gl_bsP I I' to at_ lv r) (h0 : to ≠ 0) : gl_fq [39, 40, 41, to] [] I I' := by
  refine ⟨fun c hc hx => ?_, fun k _ => ?_⟩
  · simp only [List.mem_cons, List.not_mem_nil, or_false, not_or] at hx
    exact h.1 c hx.1 hx.2.1 hx.2.2.1 hx.2.2.2
  · rw [h.1 0 (by decide) (by decide) (by decide) (Ne.symm h0)]
set_option maxHeartbeats 4000000 in
set_option maxRecDepth 100000 in
theorem ct_X9_layLog {l : Launch} {δ : gl_Del} {I : Nat → Nat → Int32} {L : Nat → Nat → Int64} {B : Nat → Nat → Bool} {p0 : gl_Pl} {lg a0 b : Nat} (h : Nat) (hh : 14 ≤ h) (hlg : lg < 6) (hp : gl_mp I p0) (hs : gl_sz p0 = a0) (hi0 : gl_inc 0 p0) (hab : a0 ≤ b) (hb : b ≤ 400) : gl_Ct l δ yX9_layLog (ws_ yX9_layLog cX9_layLog 6 none) (gl_rm h 0 0) 0 0 [.ref 0, .int (nI lg), .int (nI a0), .int (nI b)] (gl_mL, I, L, B, gl_mR) (gl_Qv fun S => ∃ I', S = (gl_mL, I', L, B, gl_mR) ∧ gl_fq [39, 40, 41, 42, 43, 44, 46] [49] I I' ∧ gl_mp I' (gl_ll (fun a e => gl_bs (fun i => I 2 (400 * lg + i)) (fun i => L 3 (400 * lg + i)) e a) b (b - a0) a0 p0)) := by
  refine gl_of (by decide) (Nat.le_of_ble_eq_true rfl) rfl ?_
  intro κ C hQ hlκ hδκ hnL hini
  change gl_Cx κ RX9 _ _ _ at C
  have loop : ∀ (n a : Nat) (p : gl_Pl) (I1 : Nat → Nat → Int32), b - a ≤ n → a ≤ b → gl_mp I1 p → gl_sz p = a → gl_inc 0 p → gl_fq [39, 40, 41, 42, 43, 44, 46] [49] I I1 → gl_ll (fun a e => gl_bs (fun i => I 2 (400 * lg + i)) (fun i => L 3 (400 * lg + i)) e a) b n a p = gl_ll (fun a e => gl_bs (fun i => I 2 (400 * lg + i)) (fun i => L 3 (400 * lg + i)) e a) b (b - a0) a0 p0 → ∀ x5 : Option Value, gl_J κ 0 0 (gl_mL, I1, L, B, gl_mR) 3 [some (.ref 0), some (.int (nI lg)), some (.int (nI a0)), some (.int (nI b)), some (.int (nI a)), x5] [] := by
    intro n
    induction n with
    | zero =>
      intro a p I1 hn hab1 hm hs1 hi hf htg x5
      have hab2 : a = b := by omega
      subst hab2
      refine j_iload C dX9_layLog_3 rfl 5 rfl ?_
      refine j_iload_n C dX9_layLog_5 rfl 6 rfl ?_
      refine n_icmp_ge C 55 9 dX9_layLog_6 (by decide) rfl (by omega) (by omega) (fun c_6 => ?_) (fun c_6 => ?_)
      · exact j_ret C hQ ⟨_, rfl, hf, by rw [← htg]; exact hm⟩ (by omega) (by omega) dX9_layLog_55
      · exact absurd c_6 (by omega)
    | succ n ih =>
      intro a p I1 hn hab1 hm hs1 hi hf htg x5
      subst hs1
      rcases Nat.lt_or_ge (gl_sz p) b with hlt | hge
      · have hk := gl_lv_ok hlt
        have hk9 : gl_lv (gl_sz p) b ≤ 9 := gl_lv_le
        have h0 := Nat.two_pow_pos (gl_lv (gl_sz p) b)
        have hlen := gl_inc_len hi (by decide) (by omega)
        refine j_iload C dX9_layLog_3 rfl 5 rfl ?_
        refine j_iload_n C dX9_layLog_5 rfl 6 rfl ?_
        refine n_icmp_ge C 55 9 dX9_layLog_6 (by decide) rfl (by omega) (by omega) (fun c_6 => ?_) (fun c_6 => ?_)
        · exact absurd c_6 (by omega)
        · refine j_iload C dX9_layLog_9 rfl 11 rfl ?_
          refine j_iload_n C dX9_layLog_11 rfl 12 rfl ?_
          refine j_ci C (cs_X9_212 C (ct_X9_blockAt (h - 1) (by omega) (by omega) (by omega)) rfl (by omega) (by omega) (by omega) rfl (Nat.le_of_ble_eq_true rfl) dX9_layLog_12) 15 rfl ?_
          rintro _ _ ⟨rfl, rfl⟩
          refine j_istore C dX9_layLog_15 (Nat.le_of_ble_eq_true rfl) (by rw [hnL]; decide) rfl 17 rfl ?_
          refine j_aload_n C dX9_layLog_17 rfl 18 rfl ?_
          refine j_iload_n C dX9_layLog_18 rfl 19 rfl ?_
          refine j_iload C dX9_layLog_19 rfl 21 rfl ?_
          refine j_iload C dX9_layLog_21 rfl 23 rfl ?_
          refine j_iconst (v := nI 0) C dX9_layLog_23 (by decide) 24 rfl ?_
          refine j_aload_n C dX9_layLog_24 rfl 25 rfl ?_
          refine gf_X9_148 C rfl rfl dX9_layLog_25 28 rfl ?_
          refine j_iconst (v := nI 0) C dX9_layLog_28 (by decide) 29 rfl ?_
          refine j_cv C (cs_X9_200 C (ct_X9_blockSum (gl_lv (gl_sz p) b) (I := I1) (fr := gl_sz p) (lv := 0) (to := 46) (nt := 8) (at_ := 0) (h - 1) (by omega) hlg (by omega) (by omega) rfl (by decide) (by decide) (by decide) (by decide)) rfl rfl (by omega) (by omega) (by omega) rfl (Nat.le_of_ble_eq_true rfl) dX9_layLog_29) 32 rfl ?_
          rintro _ ⟨I2, rfl, h2⟩
          have hf2 := (h2.fq (by decide)).mo (X' := [39, 40, 41, 42, 43, 44, 46]) (Y' := [49]) (by decide) (by decide)
          have hm2 : gl_mp I2 p := gl_mp_fq hm (h2.fq (by decide)) (by decide) (by decide)
          refine j_aload_n C dX9_layLog_32 rfl 33 rfl ?_
          refine j_iload C dX9_layLog_33 rfl 35 rfl ?_
          refine j_iload C dX9_layLog_35 rfl 37 rfl ?_
          refine j_aload_n C dX9_layLog_37 rfl 38 rfl ?_
          refine gf_X9_148 C rfl rfl dX9_layLog_38 41 rfl ?_
          refine j_iconst (v := nI 0) C dX9_layLog_41 (by decide) 42 rfl ?_
          refine j_cv C (cs_X9_216 C (ct_X9_lay (I := I2) (p := p) (e := gl_lv (gl_sz p) b) (rw_ := 46) (nr := 8) (q_ := 0) (h - 1) (by omega) hm2 (by omega) (by omega) rfl (by decide) (by decide) (by decide) (by decide) (by decide)) rfl rfl (by omega) (by omega) (by omega) rfl (Nat.le_of_ble_eq_true rfl) dX9_layLog_42) 45 rfl ?_
          rintro _ ⟨I3, rfl, h3, h4⟩
          refine j_iload C dX9_layLog_45 rfl 47 rfl ?_
          refine j_iload C dX9_layLog_47 rfl 49 rfl ?_
          refine n_iadd C dX9_layLog_49 50 rfl ?_
          refine j_istore C dX9_layLog_50 (Nat.le_of_ble_eq_true rfl) (by rw [hnL]; decide) rfl 52 rfl ?_
          refine j_goto (tgt := 3) C dX9_layLog_52 (by decide) ?_
          have e2 : I1 2 = I 2 := hf.1 2 (by decide) (by decide)
          have hrow : gl_lay (gl_sz p) (gl_lv (gl_sz p) b) (fun t => I2 46 (0 + t)) p = gl_lay (gl_sz p) (gl_lv (gl_sz p) b) (gl_bs (fun i => I 2 (400 * lg + i)) (fun i => L 3 (400 * lg + i)) (gl_lv (gl_sz p) b) (gl_sz p)) p := by
            refine gl_lay_congr fun t ht => ?_
            rw [Nat.zero_add, h2.2.1 (by decide), gl_cpy_lt ht, e2]
          rw [hrow] at h4
          refine ih (gl_sz p + 2 ^ gl_lv (gl_sz p) b) _ I3 (by omega) hk.2 h4 (by rw [gl_sz_lay]; omega) (gl_inc_lay hi hk.1) ((hf.tr hf2).tr (h3.mo (by decide) (by decide))) ?_ _
          rw [← htg, gl_ll_s c_6]
      · have hab2 : b = gl_sz p := by omega
        subst hab2
        rw [gl_ll_end] at htg
        refine j_iload C dX9_layLog_3 rfl 5 rfl ?_
        refine j_iload_n C dX9_layLog_5 rfl 6 rfl ?_
        refine n_icmp_ge C 55 9 dX9_layLog_6 (by decide) rfl (by omega) (by omega) (fun c_6 => ?_) (fun c_6 => ?_)
        · exact j_ret C hQ ⟨_, rfl, hf, by rw [← htg]; exact hm⟩ (by omega) (by omega) dX9_layLog_55
        · exact absurd c_6 (by omega)
  refine j_iload_n C dX9_layLog_0 rfl 1 rfl ?_
  refine j_istore C dX9_layLog_1 (Nat.le_of_ble_eq_true rfl) (by rw [hnL]; decide) rfl 3 rfl ?_
  exact loop (b - a0) a0 p0 I (Nat.le_refl _) hab hp hs hi0 gl_fq.rf rfl _
