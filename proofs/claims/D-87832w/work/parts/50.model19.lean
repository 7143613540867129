/-! MODULE Model, proofs tried: laySteps, isSpanRight, isGrownRight (by gen50.py) -/
set_option maxRecDepth 100000
/-- the blocks from a to b, by steps from u on -/
def gl_ls (row : Nat → Nat → Int32) (b : Nat) : Nat → Nat → Nat → gl_Pl → gl_Pl
  | 0, _, _, p => p
  | n + 1, a, u, p => if a < b then gl_ls row b n (a + 2 ^ gl_lv a b) (u + 1) (gl_lay a (gl_lv a b) (row u) p) else p
theorem gl_ls_end {row : Nat → Nat → Int32} {b n u : Nat} {p : gl_Pl} : gl_ls row b n b u p = p := by
  cases n with
  | zero => rfl
  | succ n => exact if_neg (Nat.lt_irrefl b)
theorem gl_ls_s {row : Nat → Nat → Int32} {a b n u : Nat} {p : gl_Pl} (h : a < b) : gl_ls row b (n + 1) a u p = gl_ls row b n (a + 2 ^ gl_lv a b) (u + 1) (gl_lay a (gl_lv a b) (row u) p) := if_pos h
theorem gl_ls_inv {row : Nat → Nat → Int32} {b : Nat} : ∀ (n a u : Nat) (p : gl_Pl), b - a ≤ n → a ≤ b → gl_sz p = a → gl_inc 0 p → gl_sz (gl_ls row b n a u p) = b ∧ gl_inc 0 (gl_ls row b n a u p)
  | 0, a, u, p, h, hab, hs, hi => ⟨by show gl_sz p = b; omega, hi⟩
  | n + 1, a, u, p, h, hab, hs, hi => by
    by_cases hq : a < b
    · rw [gl_ls_s hq]
      have hk := gl_lv_ok hq
      have h0 := Nat.two_pow_pos (gl_lv a b)
      refine gl_ls_inv n _ _ _ (by omega) hk.2 (by rw [gl_sz_lay, hs]; omega) ?_
      rw [← hs]
      refine gl_inc_lay hi ?_
      rw [hs]
      exact hk.1
    · have : a = b := by omega
      subst this
      rw [gl_ls_end]
      exact ⟨hs, hi⟩
theorem gl_ls_congr {row row' : Nat → Nat → Int32} {b : Nat} : ∀ (n a u : Nat) (p : gl_Pl), (∀ i, u ≤ i → i < u + (gl_bls b n a).length → ∀ t, t < 8 → row i t = row' i t) → gl_ls row b n a u p = gl_ls row' b n a u p
  | 0, a, u, p, h => rfl
  | n + 1, a, u, p, h => by
    by_cases hq : a < b
    · rw [gl_bls_s hq, List.length_cons] at h
      rw [gl_ls_s hq, gl_ls_s hq, gl_lay_congr (fun t ht => h u (Nat.le_refl u) (by omega) t ht)]
      exact gl_ls_congr n _ _ _ (fun i h1 h2 t ht => h i (by omega) (by omega) t ht)
    · unfold gl_ls
      rw [if_neg hq, if_neg hq]
abbrev gl_stp (I : Nat → Nat → Int32) (s : Nat) : Nat → Nat → Int32 := fun u t => I 12 (8 * (256 * s + u) + t)
set_option maxHeartbeats 4000000 in
set_option maxRecDepth 100000 in
theorem ct_X9_laySteps {l : Launch} {δ : gl_Del} {I : Nat → Nat → Int32} {L : Nat → Nat → Int64} {B : Nat → Nat → Bool} {p0 : gl_Pl} {s a0 b u0 : Nat} (h : Nat) (hh : 5 ≤ h) (hs16 : s < 16) (hp : gl_mp I p0) (hs : gl_sz p0 = a0) (hi0 : gl_inc 0 p0) (hab : a0 ≤ b) (hb : b ≤ 400) (hu0 : I 0 63 = nI u0) (hub : u0 + (gl_bls b (b - a0) a0).length ≤ 256) : gl_Ct l δ yX9_laySteps (ws_ yX9_laySteps cX9_laySteps 6 none) (gl_rm h 0 0) 0 0 [.ref 0, .int (nI s), .int (nI a0), .int (nI b)] (gl_mL, I, L, B, gl_mR) (gl_Qv fun S => ∃ I', S = (gl_mL, I', L, B, gl_mR) ∧ gl_fq [39, 40, 42, 43, 44] [49, 63] I I' ∧ I' 0 63 = nI (u0 + (gl_bls b (b - a0) a0).length) ∧ gl_mp I' (gl_ls (gl_stp I s) b (b - a0) a0 u0 p0)) := by
  refine gl_of (by decide) (Nat.le_of_ble_eq_true rfl) rfl ?_
  intro κ C hQ hlκ hδκ hnL hini
  change gl_Cx κ RX9 _ _ _ at C
  obtain ⟨U, hU⟩ : ∃ U, U = u0 + (gl_bls b (b - a0) a0).length := ⟨_, rfl⟩
  rw [← hU] at hub hQ
  have loop : ∀ (n a u : Nat) (p : gl_Pl) (I1 : Nat → Nat → Int32), b - a ≤ n → a ≤ b → gl_mp I1 p → gl_sz p = a → gl_inc 0 p → gl_fq [39, 40, 42, 43, 44] [49, 63] I I1 → I1 0 63 = nI u → u + (gl_bls b n a).length = U → gl_ls (gl_stp I s) b n a u p = gl_ls (gl_stp I s) b (b - a0) a0 u0 p0 → ∀ x5 : Option Value, gl_J κ 0 0 (gl_mL, I1, L, B, gl_mR) 3 [some (.ref 0), some (.int (nI s)), some (.int (nI a0)), some (.int (nI b)), some (.int (nI a)), x5] [] := by
    intro n
    induction n with
    | zero =>
      intro a u p I1 hn hab1 hm hs1 hi hf hu hUu htg x5
      have hab2 : a = b := by omega
      subst hab2
      have hU2 : U = u := hUu.symm
      refine j_iload C dX9_laySteps_3 rfl 5 rfl ?_
      refine j_iload_n C dX9_laySteps_5 rfl 6 rfl ?_
      refine n_icmp_ge C 62 9 dX9_laySteps_6 (by decide) rfl (by omega) (by omega) (fun c_6 => ?_) (fun c_6 => ?_)
      · exact j_ret C hQ ⟨_, rfl, hf, by rw [hu, ← hU2], by rw [← htg]; exact hm⟩ (by omega) (by omega) dX9_laySteps_62
      · exact absurd c_6 (by omega)
    | succ n ih =>
      intro a u p I1 hn hab1 hm hs1 hi hf hu hUu htg x5
      subst hs1
      rcases Nat.lt_or_ge (gl_sz p) b with hlt | hge
      · have hk := gl_lv_ok hlt
        have hk9 : gl_lv (gl_sz p) b ≤ 9 := gl_lv_le
        have h0 := Nat.two_pow_pos (gl_lv (gl_sz p) b)
        have hlen := gl_inc_len hi (by decide) (by omega)
        rw [gl_bls_s hlt, List.length_cons] at hUu
        refine j_iload C dX9_laySteps_3 rfl 5 rfl ?_
        refine j_iload_n C dX9_laySteps_5 rfl 6 rfl ?_
        refine n_icmp_ge C 62 9 dX9_laySteps_6 (by decide) rfl (by omega) (by omega) (fun c_6 => ?_) (fun c_6 => ?_)
        · exact absurd c_6 (by omega)
        · refine j_iload C dX9_laySteps_9 rfl 11 rfl ?_
          refine j_iload_n C dX9_laySteps_11 rfl 12 rfl ?_
          refine j_ci C (cs_X9_212 C (ct_X9_blockAt (h - 1) (by omega) (by omega) (by omega)) rfl (by omega) (by omega) (by omega) rfl (Nat.le_of_ble_eq_true rfl) dX9_laySteps_12) 15 rfl ?_
          rintro _ _ ⟨rfl, rfl⟩
          refine j_istore C dX9_laySteps_15 (Nat.le_of_ble_eq_true rfl) (by rw [hnL]; decide) rfl 17 rfl ?_
          refine j_aload_n C dX9_laySteps_17 rfl 18 rfl ?_
          refine j_iload C dX9_laySteps_18 rfl 20 rfl ?_
          refine j_iload C dX9_laySteps_20 rfl 22 rfl ?_
          refine j_aload_n C dX9_laySteps_22 rfl 23 rfl ?_
          refine gf_X9_46 C rfl rfl dX9_laySteps_23 26 rfl ?_
          refine j_bipush (v := nI 8) C dX9_laySteps_26 (by decide) 28 rfl ?_
          refine j_sipush (v := nI 256) C dX9_laySteps_28 (by decide) 31 rfl ?_
          refine j_iload_n C dX9_laySteps_31 rfl 32 rfl ?_
          refine n_imul C dX9_laySteps_32 33 rfl ?_
          refine j_aload_n C dX9_laySteps_33 rfl 34 rfl ?_
          refine gf_X9_312 C rfl dX9_laySteps_34 37 rfl ?_
          rw [hu]
          refine n_iadd C dX9_laySteps_37 38 rfl ?_
          refine n_imul C dX9_laySteps_38 39 rfl ?_
          refine j_cv C (cs_X9_216 C (ct_X9_lay (I := I1) (p := p) (e := gl_lv (gl_sz p) b) (rw_ := 12) (nr := 32768) (q_ := 8 * (256 * s + u)) (h - 1) (by omega) hm (by omega) (by omega) rfl (by decide) (by decide) (by decide) (by omega) (by decide)) rfl rfl (by omega) (by omega) (by omega) rfl (Nat.le_of_ble_eq_true rfl) dX9_laySteps_39) 42 rfl ?_
          rintro _ ⟨I3, rfl, h3, h4⟩
          refine j_aload_n C dX9_laySteps_42 rfl 43 rfl ?_
          refine j_dup C dX9_laySteps_43 rfl 44 rfl ?_
          refine gf_X9_312 C rfl dX9_laySteps_44 47 rfl ?_
          rw [h3.2 63 (by decide), hu]
          refine j_iconst (v := nI 1) C dX9_laySteps_47 (by decide) 48 rfl ?_
          refine n_iadd C dX9_laySteps_48 49 rfl ?_
          refine pf_X9_312 C rfl dX9_laySteps_49 52 rfl ?_
          refine j_iload C dX9_laySteps_52 rfl 54 rfl ?_
          refine j_iload C dX9_laySteps_54 rfl 56 rfl ?_
          refine n_iadd C dX9_laySteps_56 57 rfl ?_
          refine j_istore C dX9_laySteps_57 (Nat.le_of_ble_eq_true rfl) (by rw [hnL]; decide) rfl 59 rfl ?_
          refine j_goto (tgt := 3) C dX9_laySteps_59 (by decide) ?_
          rw [hf.1 12 (by decide) (by decide)] at h4
          refine ih (gl_sz p + 2 ^ gl_lv (gl_sz p) b) (u + 1) _ _ (by omega) hk.2 (gl_mp_fq h4 ((gl_fq.rf (X := []) (Y := [63])).sc (by decide)) (by decide) (by decide)) (by rw [gl_sz_lay]; omega) (gl_inc_lay hi hk.1) ((hf.tr (h3.mo (by decide) (by decide))).sc (by decide)) (by rw [gl_u2_eq, gl_up_eq]) (by omega) ?_ _
          rw [← htg, gl_ls_s c_6]
      · have hab2 : b = gl_sz p := by omega
        subst hab2
        rw [gl_ls_end] at htg
        have hU2 : U = u := by rw [← hUu, gl_bls_e]; rfl
        refine j_iload C dX9_laySteps_3 rfl 5 rfl ?_
        refine j_iload_n C dX9_laySteps_5 rfl 6 rfl ?_
        refine n_icmp_ge C 62 9 dX9_laySteps_6 (by decide) rfl (by omega) (by omega) (fun c_6 => ?_) (fun c_6 => ?_)
        · exact j_ret C hQ ⟨_, rfl, hf, by rw [hu, ← hU2], by rw [← htg]; exact hm⟩ (by omega) (by omega) dX9_laySteps_62
        · exact absurd c_6 (by omega)
  refine j_iload_n C dX9_laySteps_0 rfl 1 rfl ?_
  refine j_istore C dX9_laySteps_1 (Nat.le_of_ble_eq_true rfl) (by rw [hnL]; decide) rfl 3 rfl ?_
  exact loop (b - a0) a0 u0 p0 I (Nat.le_refl _) hab hp hs hi0 gl_fq.rf hu0 hU.symm rfl _
