/-! MODULE Model, logs: prune, latest, count, head asked (by gen42.py) -/
set_option maxRecDepth 100000
theorem gl_sw (x : Int32) (n : Nat) (hn : n < 2 ^ 31) : (∃ k, k < n ∧ x = nI k) ∨ (x.toInt < 0 ∨ (n : Int) - 1 < x.toInt) := by
  rcases pk_ix x hn with h | h | ⟨j, h1, h2⟩
  · exact Or.inr (Or.inl (by simpa using Int32.lt_iff_toInt_lt.mp h))
  · refine Or.inr (Or.inr ?_)
    have := Int32.le_iff_toInt_le.mp h
    rw [nI_toInt hn] at this
    omega
  · exact Or.inl ⟨j, h1, h2⟩
/-- a log and a count of it, as numbers -/
theorem gl_ic_iff {I : Nat → Nat → Int32} {lm : Nat} {mn hd ld : Nat → Nat} {sn : Nat → Nat → Nat} (H : gl_LI I lm mn hd ld sn) {x n : Int32} : gl_ic I lm x n = true ↔ ∃ lg m, lg < lm ∧ m ≤ mn lg ∧ x = nI lg ∧ n = nI m := by
  have h6 := H.2.1
  unfold gl_ic
  rw [Bool.and_eq_true, gl_in_iff (by omega), decide_eq_true_iff]
  constructor
  · rintro ⟨⟨lg, hlg, rfl⟩, h1, h2⟩
    have hk := H.2.2 lg hlg
    obtain ⟨m, hm, rfl⟩ := nI_of h1
    rw [nI_clamp (by omega), hk.1] at h2
    exact ⟨lg, m, hlg, Nat.not_lt.mp (fun q => h2 ((nI_ltI (by omega) hm).mpr q)), rfl, rfl⟩
  · rintro ⟨lg, m, hlg, hm, rfl, rfl⟩
    have hk := H.2.2 lg hlg
    refine ⟨⟨lg, hlg, rfl⟩, nI_pos (by omega), ?_⟩
    rw [nI_clamp (by omega), hk.1]
    exact fun q => by have := (nI_ltI (by omega) (by omega)).mp q; omega
def gl_prw (g t : Nat → Bool) (a j : Nat) : Nat → Bool := fun k => if a ≤ k ∧ k < a + j then (g k || !t k) else g k
def gl_prc (g t : Nat → Bool) (a : Nat) : Nat → Nat
  | 0 => 0
  | j + 1 => if g (a + j) = false ∧ t (a + j) = false then gl_prc g t a j + 1 else gl_prc g t a j
theorem gl_prc_le {g t : Nat → Bool} {a : Nat} : ∀ j, gl_prc g t a j ≤ j
  | 0 => Nat.le_refl 0
  | j + 1 => by
    have := gl_prc_le (g := g) (t := t) (a := a) j
    unfold gl_prc
    by_cases h : g (a + j) = false ∧ t (a + j) = false
    · rw [if_pos h]; omega
    · rw [if_neg h]; omega
theorem gl_prw_at {g t : Nat → Bool} {a j : Nat} : gl_prw g t a j (a + j) = g (a + j) := if_neg (by omega)
theorem gl_prw_1 {g t : Nat → Bool} {a j : Nat} (h1 : g (a + j) = false) (h2 : t (a + j) = false) : va_up (gl_prw g t a j) (a + j) true = gl_prw g t a (j + 1) := by
  funext k
  by_cases h : k = a + j
  · subst h; rw [gl_up_eq, gl_prw, if_pos (by omega), h1, h2]; rfl
  · rw [gl_up_ne h]
    unfold gl_prw
    by_cases hq : a ≤ k ∧ k < a + j
    · rw [if_pos hq, if_pos (by omega)]
    · rw [if_neg hq, if_neg (by omega)]
theorem gl_prw_2 {g t : Nat → Bool} {a j : Nat} (h : g (a + j) = true ∨ t (a + j) = true) : gl_prw g t a j = gl_prw g t a (j + 1) := by
  funext k
  unfold gl_prw
  by_cases hk : k = a + j
  · subst hk
    rw [if_neg (by omega), if_pos (by omega)]
    rcases h with h | h <;> rw [h] <;> simp
  · by_cases hq : a ≤ k ∧ k < a + j
    · rw [if_pos hq, if_pos (by omega)]
    · rw [if_neg hq, if_neg (by omega)]
/-- prune -/
def gl_prune (I : Nat → Nat → Int32) (L : Nat → Nat → Int64) (B : Nat → Nat → Bool) (lm : Nat) (x n : Int32) : Int32 × gl_Sto := if gl_ic I lm x n = true then (nI (gl_prc (B 4) (B 5) (400 * x.toNatClampNeg) n.toNatClampNeg), (gl_mL, I, L, va_up B 4 (gl_prw (B 4) (B 5) (400 * x.toNatClampNeg) n.toNatClampNeg), gl_mR)) else (-1, (gl_mL, I, L, B, gl_mR))
set_option maxHeartbeats 4000000 in
set_option maxRecDepth 100000 in
theorem ct_X9_prune {l : Launch} {δ : gl_Del} {I : Nat → Nat → Int32} {L : Nat → Nat → Int64} {B : Nat → Nat → Bool} {lm : Nat} {mn hd ld : Nat → Nat} {sn : Nat → Nat → Nat} {x n : Int32} (h : Nat) (hh : 3 ≤ h) (H : gl_LI I lm mn hd ld sn) : gl_Ct l δ yX9_prune (ws_ yX9_prune cX9_prune 6 ((some FieldType.int))) (gl_rm h 0 0) 0 0 [.ref 0, .int x, .int n] (gl_mL, I, L, B, gl_mR) (gl_Qi fun r S => (r, S) = gl_prune I L B lm x n) := by
  refine gl_of (by decide) (Nat.le_of_ble_eq_true rfl) rfl ?_
  intro κ C hQ hlκ hδκ hnL hini
  change gl_Cx κ RX9 _ _ _ at C
  have hlm6 : lm ≤ 6 := H.2.1
  refine j_aload_n C dX9_prune_0 rfl 1 rfl ?_
  refine j_iload_n C dX9_prune_1 rfl 2 rfl ?_
  refine j_iload_n C dX9_prune_2 rfl 3 rfl ?_
  refine j_ci C (cs_X9_277 C (ct_X9_isCount (h - 1) (by omega) H.1 H.2.1) rfl rfl (by omega) (by omega) (by omega) rfl (Nat.le_of_ble_eq_true rfl) dX9_prune_3) 6 rfl ?_
  rintro _ _ ⟨rfl, rfl⟩
  refine b_if_ne C 11 9 dX9_prune_6 (by decide) rfl (fun c_6 => ?_) (fun c_6 => ?_)
  · obtain ⟨lg, m, hlg, hm, rfl, rfl⟩ := (gl_ic_iff H).mp c_6
    have hk := H.2.2 lg hlg
    have hcl : (nI lg).toNatClampNeg = lg := nI_clamp (by omega)
    have hcm : (nI m).toNatClampNeg = m := nI_clamp (by omega)
    have loop : ∀ k j : Nat, j + k = m → ∀ x5 : Option Value, gl_J κ 0 0 (gl_mL, I, L, va_up B 4 (gl_prw (B 4) (B 5) (400 * lg) j), gl_mR) 16 [some (.ref 0), some (.int (nI lg)), some (.int (nI m)), some (.int (nI (gl_prc (B 4) (B 5) (400 * lg) j))), some (.int (nI j)), x5] [] := by
      intro k
      induction k with
      | zero =>
        intro j hj x5
        have hjN : j = m := by omega
        subst hjN
        refine j_iload C dX9_prune_16 rfl 18 rfl ?_
        refine j_iload_n C dX9_prune_18 rfl 19 rfl ?_
        refine n_icmp_ge C 72 22 dX9_prune_19 (by decide) rfl (by omega) (by omega) (fun c_19 => ?_) (fun c_19 => ?_)
        · refine j_iload_n C dX9_prune_72 rfl 73 rfl ?_
          exact j_iret C hQ (by rw [gl_prune, if_pos c_6, hcl, hcm]) (by omega) (by omega) dX9_prune_73
        · exact absurd c_19 (by omega)
      | succ k ih =>
        intro j hj x5
        refine j_iload C dX9_prune_16 rfl 18 rfl ?_
        refine j_iload_n C dX9_prune_18 rfl 19 rfl ?_
        refine n_icmp_ge C 72 22 dX9_prune_19 (by decide) rfl (by omega) (by omega) (fun c_19 => ?_) (fun c_19 => ?_)
        · exact absurd c_19 (by omega)
        · refine j_sipush (v := nI 400) C dX9_prune_22 (by decide) 25 rfl ?_
          refine j_iload_n C dX9_prune_25 rfl 26 rfl ?_
          refine n_imul C dX9_prune_26 27 rfl ?_
          refine j_iload C dX9_prune_27 rfl 29 rfl ?_
          refine n_iadd C dX9_prune_29 30 rfl ?_
          refine j_istore C dX9_prune_30 (Nat.le_of_ble_eq_true rfl) (by rw [hnL]; decide) rfl 32 rfl ?_
          refine j_aload_n C dX9_prune_32 rfl 33 rfl ?_
          refine gf_X9_20 C rfl rfl dX9_prune_33 36 rfl ?_
          refine j_iload C dX9_prune_36 rfl 38 rfl ?_
          refine j_zald C rfl (by omega) (by decide) dX9_prune_38 39 rfl ?_
          rw [gl_up_eq, gl_prw_at]
          refine b_if_ne C 66 42 dX9_prune_39 (by decide) rfl (fun c_39 => ?_) (fun c_39 => ?_)
          · refine n_iinc C dX9_prune_66 rfl (by rw [hnL]; decide) rfl 69 rfl ?_
            refine j_goto (tgt := 16) C dX9_prune_69 (by decide) ?_
            rw [gl_prw_2 (Or.inl c_39)]
            have e : gl_prc (B 4) (B 5) (400 * lg) (j + 1) = gl_prc (B 4) (B 5) (400 * lg) j := if_neg (fun q => by rw [c_39] at q; cases q.1)
            rw [← e]
            exact ih (j + 1) (by omega) _
          · refine j_aload_n C dX9_prune_42 rfl 43 rfl ?_
            refine gf_X9_24 C rfl rfl dX9_prune_43 46 rfl ?_
            refine j_iload C dX9_prune_46 rfl 48 rfl ?_
            refine j_zald C rfl (by omega) (by decide) dX9_prune_48 49 rfl ?_
            rw [gl_up_ne (show (5 : Nat) ≠ 4 by decide)]
            refine b_if_eq C 55 52 dX9_prune_49 (by decide) rfl (fun c_49 => ?_) (fun c_49 => ?_)
            · refine j_aload_n C dX9_prune_55 rfl 56 rfl ?_
              refine gf_X9_20 C rfl rfl dX9_prune_56 59 rfl ?_
              refine j_iload C dX9_prune_59 rfl 61 rfl ?_
              refine j_iconst (v := b2i true) C dX9_prune_61 (by decide) 62 rfl ?_
              refine j_zast C rfl (by omega) (by decide) dX9_prune_62 63 rfl ?_
              refine n_iinc C dX9_prune_63 rfl (by rw [hnL]; decide) rfl 66 rfl ?_
              refine n_iinc C dX9_prune_66 rfl (by rw [hnL]; decide) rfl 69 rfl ?_
              refine j_goto (tgt := 16) C dX9_prune_69 (by decide) ?_
              rw [gl_u2_up, gl_prw_1 c_39 c_49]
              have e : gl_prc (B 4) (B 5) (400 * lg) (j + 1) = gl_prc (B 4) (B 5) (400 * lg) j + 1 := if_pos ⟨c_39, c_49⟩
              rw [← e]
              exact ih (j + 1) (by omega) _
            · refine j_goto (tgt := 66) C dX9_prune_52 (by decide) ?_
              refine n_iinc C dX9_prune_66 rfl (by rw [hnL]; decide) rfl 69 rfl ?_
              refine j_goto (tgt := 16) C dX9_prune_69 (by decide) ?_
              rw [gl_prw_2 (Or.inr c_49)]
              have e : gl_prc (B 4) (B 5) (400 * lg) (j + 1) = gl_prc (B 4) (B 5) (400 * lg) j := if_neg (fun q => by rw [c_49] at q; cases q.2)
              rw [← e]
              exact ih (j + 1) (by omega) _
    refine j_iconst (v := nI 0) C dX9_prune_11 (by decide) 12 rfl ?_
    refine j_istore_n C dX9_prune_12 (Nat.le_of_ble_eq_true rfl) (by rw [hnL]; decide) rfl 13 rfl ?_
    refine j_iconst (v := nI 0) C dX9_prune_13 (by decide) 14 rfl ?_
    refine j_istore C dX9_prune_14 (Nat.le_of_ble_eq_true rfl) (by rw [hnL]; decide) rfl 16 rfl ?_
    have := loop m 0 (by omega) none
    rw [show gl_prw (B 4) (B 5) (400 * lg) 0 = B 4 by funext k; exact if_neg (by omega), gl_up_self] at this
    exact this
  · refine j_iconst (v := -1) C dX9_prune_9 (by decide) 10 rfl ?_
    exact j_iret C hQ (by rw [gl_prune, if_neg (by rw [c_6]; decide)]) (by omega) (by omega) dX9_prune_10
/-- the last of n entries that has the key and counts -/
def gl_la (cn : Nat → Bool) (K : Nat → Int32) (ky : Int32) : Nat → Int32
  | 0 => -1
  | j + 1 => if K j = ky ∧ cn j = true then nI j else gl_la cn K ky j
abbrev gl_lcn (I : Nat → Nat → Int32) (B : Nat → Nat → Bool) (hd ld : Nat → Nat) (sn : Nat → Nat → Nat) (lg n : Nat) : Nat → Bool := fun i => gl_cn (fun t => I 6 (100 * lg + t)) (sn lg) (fun t => B 8 (100 * lg + t)) (hd lg + ld lg) n i (I 2 (400 * lg + i))
def gl_latest (I : Nat → Nat → Int32) (B : Nat → Nat → Bool) (lm : Nat) (hd ld : Nat → Nat) (sn : Nat → Nat → Nat) (x n ky : Int32) : Int32 := if gl_ic I lm x n = true then gl_la (gl_lcn I B hd ld sn x.toNatClampNeg n.toNatClampNeg) (fun i => I 2 (400 * x.toNatClampNeg + i)) ky n.toNatClampNeg else -1
set_option maxHeartbeats 4000000 in
set_option maxRecDepth 100000 in
theorem ct_X9_latest {l : Launch} {δ : gl_Del} {I : Nat → Nat → Int32} {L : Nat → Nat → Int64} {B : Nat → Nat → Bool} {lm : Nat} {mn hd ld : Nat → Nat} {sn : Nat → Nat → Nat} {x n ky : Int32} (h : Nat) (hh : 3 ≤ h) (H : gl_LI I lm mn hd ld sn) : gl_Ct l δ yX9_latest (ws_ yX9_latest cX9_latest 6 ((some FieldType.int))) (gl_rm h 0 0) 0 0 [.ref 0, .int x, .int n, .int ky] (gl_mL, I, L, B, gl_mR) (gl_Qi fun r S => r = gl_latest I B lm hd ld sn x n ky ∧ S = (gl_mL, I, L, B, gl_mR)) := by
  refine gl_of (by decide) (Nat.le_of_ble_eq_true rfl) rfl ?_
  intro κ C hQ hlκ hδκ hnL hini
  change gl_Cx κ RX9 _ _ _ at C
  have hlm6 : lm ≤ 6 := H.2.1
  refine j_aload_n C dX9_latest_0 rfl 1 rfl ?_
  refine j_iload_n C dX9_latest_1 rfl 2 rfl ?_
  refine j_iload_n C dX9_latest_2 rfl 3 rfl ?_
  refine j_ci C (cs_X9_277 C (ct_X9_isCount (h - 1) (by omega) H.1 H.2.1) rfl rfl (by omega) (by omega) (by omega) rfl (Nat.le_of_ble_eq_true rfl) dX9_latest_3) 6 rfl ?_
  rintro _ _ ⟨rfl, rfl⟩
  refine b_if_ne C 11 9 dX9_latest_6 (by decide) rfl (fun c_6 => ?_) (fun c_6 => ?_)
  · obtain ⟨lg, m, hlg, hm, rfl, rfl⟩ := (gl_ic_iff H).mp c_6
    have hk := H.2.2 lg hlg
    have hcl : (nI lg).toNatClampNeg = lg := nI_clamp (by omega)
    have hcm : (nI m).toNatClampNeg = m := nI_clamp (by omega)
    have loop : ∀ k j : Nat, j + k = m → gl_J κ 0 0 (gl_mL, I, L, B, gl_mR) 17 [some (.ref 0), some (.int (nI lg)), some (.int (nI m)), some (.int ky), some (.int (gl_la (gl_lcn I B hd ld sn lg m) (fun i => I 2 (400 * lg + i)) ky j)), some (.int (nI j))] [] := by
      intro k
      induction k with
      | zero =>
        intro j hj
        have hjN : j = m := by omega
        subst hjN
        refine j_iload C dX9_latest_17 rfl 19 rfl ?_
        refine j_iload_n C dX9_latest_19 rfl 20 rfl ?_
        refine n_icmp_ge C 61 23 dX9_latest_20 (by decide) rfl (by omega) (by omega) (fun c_20 => ?_) (fun c_20 => ?_)
        · refine j_iload C dX9_latest_61 rfl 63 rfl ?_
          exact j_iret C hQ ⟨by rw [gl_latest, if_pos c_6, hcl, hcm], rfl⟩ (by omega) (by omega) dX9_latest_63
        · exact absurd c_20 (by omega)
      | succ k ih =>
        intro j hj
        refine j_iload C dX9_latest_17 rfl 19 rfl ?_
        refine j_iload_n C dX9_latest_19 rfl 20 rfl ?_
        refine n_icmp_ge C 61 23 dX9_latest_20 (by decide) rfl (by omega) (by omega) (fun c_20 => ?_) (fun c_20 => ?_)
        · exact absurd c_20 (by omega)
        · refine j_aload_n C dX9_latest_23 rfl 24 rfl ?_
          refine gf_X9_13 C rfl rfl dX9_latest_24 27 rfl ?_
          refine j_sipush (v := nI 400) C dX9_latest_27 (by decide) 30 rfl ?_
          refine j_iload_n C dX9_latest_30 rfl 31 rfl ?_
          refine n_imul C dX9_latest_31 32 rfl ?_
          refine j_iload C dX9_latest_32 rfl 34 rfl ?_
          refine n_iadd C dX9_latest_34 35 rfl ?_
          refine j_iald C rfl (by omega) (by decide) dX9_latest_35 36 rfl ?_
          refine j_iload_n C dX9_latest_36 rfl 37 rfl ?_
          refine j_icmp_ne C 55 40 dX9_latest_37 (by decide) rfl (fun c_37 => ?_) (fun c_37 => ?_)
          · refine n_iinc C dX9_latest_55 rfl (by rw [hnL]; decide) rfl 58 rfl ?_
            refine j_goto (tgt := 17) C dX9_latest_58 (by decide) ?_
            have e : gl_la (gl_lcn I B hd ld sn lg m) (fun i => I 2 (400 * lg + i)) ky (j + 1) = gl_la (gl_lcn I B hd ld sn lg m) (fun i => I 2 (400 * lg + i)) ky j := if_neg (fun q => c_37 q.1)
            rw [← e]
            exact ih (j + 1) (by omega)
          · refine j_aload_n C dX9_latest_40 rfl 41 rfl ?_
            refine j_iload_n C dX9_latest_41 rfl 42 rfl ?_
            refine j_iload_n C dX9_latest_42 rfl 43 rfl ?_
            refine j_iload C dX9_latest_43 rfl 45 rfl ?_
            refine j_ci C (cs_X9_226 C (ct_X9_counts (n := m) (i := j) (wn := hd lg + ld lg) (sn := sn lg) (h - 1) (by omega) (by omega) (H.w hlg) hk.2.2.2.2.1 (fun w hw => (hk.2.2.2.2.2 w hw).1) (fun w hw => by have := (hk.2.2.2.2.2 w hw).2; omega) (by omega) (by omega)) rfl rfl (by omega) (by omega) (by omega) rfl (Nat.le_of_ble_eq_true rfl) dX9_latest_45) 48 rfl ?_
            rintro _ _ ⟨rfl, rfl⟩
            refine b_if_eq C 55 51 dX9_latest_48 (by decide) rfl (fun c_48 => ?_) (fun c_48 => ?_)
            · refine n_iinc C dX9_latest_55 rfl (by rw [hnL]; decide) rfl 58 rfl ?_
              refine j_goto (tgt := 17) C dX9_latest_58 (by decide) ?_
              have e : gl_la (gl_lcn I B hd ld sn lg m) (fun i => I 2 (400 * lg + i)) ky (j + 1) = gl_la (gl_lcn I B hd ld sn lg m) (fun i => I 2 (400 * lg + i)) ky j := if_neg (fun q => by rw [show gl_lcn I B hd ld sn lg m j = false from c_48] at q; cases q.2)
              rw [← e]
              exact ih (j + 1) (by omega)
            · refine j_iload C dX9_latest_51 rfl 53 rfl ?_
              refine j_istore C dX9_latest_53 (Nat.le_of_ble_eq_true rfl) (by rw [hnL]; decide) rfl 55 rfl ?_
              refine n_iinc C dX9_latest_55 rfl (by rw [hnL]; decide) rfl 58 rfl ?_
              refine j_goto (tgt := 17) C dX9_latest_58 (by decide) ?_
              have e : gl_la (gl_lcn I B hd ld sn lg m) (fun i => I 2 (400 * lg + i)) ky (j + 1) = nI j := if_pos ⟨c_37, c_48⟩
              have := ih (j + 1) (by omega)
              rw [e] at this
              exact this
    refine j_iconst (v := -1) C dX9_latest_11 (by decide) 12 rfl ?_
    refine j_istore C dX9_latest_12 (Nat.le_of_ble_eq_true rfl) (by rw [hnL]; decide) rfl 14 rfl ?_
    refine j_iconst (v := nI 0) C dX9_latest_14 (by decide) 15 rfl ?_
    refine j_istore C dX9_latest_15 (Nat.le_of_ble_eq_true rfl) (by rw [hnL]; decide) rfl 17 rfl ?_
    exact loop m 0 (by omega)
  · refine j_iconst (v := -1) C dX9_latest_9 (by decide) 10 rfl ?_
    exact j_iret C hQ ⟨by rw [gl_latest, if_neg (by rw [c_6]; decide)], rfl⟩ (by omega) (by omega) dX9_latest_10
def gl_gc (g : Nat → Bool) (a : Nat) : Nat → Nat
  | 0 => 0
  | j + 1 => if g (a + j) = true then gl_gc g a j + 1 else gl_gc g a j
theorem gl_gc_le {g : Nat → Bool} {a : Nat} : ∀ j, gl_gc g a j ≤ j
  | 0 => Nat.le_refl 0
  | j + 1 => by
    have := gl_gc_le (g := g) (a := a) j
    unfold gl_gc
    by_cases h : g (a + j) = true
    · rw [if_pos h]; omega
    · rw [if_neg h]; omega
/-- the map of a log at n -/
abbrev gl_lmap (I : Nat → Nat → Int32) (B : Nat → Nat → Bool) (hd ld : Nat → Nat) (sn : Nat → Nat → Nat) (lg n : Nat) : gl_Mp := gl_map (gl_lcn I B hd ld sn lg n) (fun i => I 2 (400 * lg + i)) n
def gl_count (I : Nat → Nat → Int32) (B : Nat → Nat → Bool) (lm : Nat) (mn hd ld : Nat → Nat) (sn : Nat → Nat → Nat) (x w : Int32) : Int32 := if gl_in x lm = true then (if w = nI 0 then nI (mn x.toNatClampNeg) else if w = nI 1 then nI (gl_gc (B 4) (400 * x.toNatClampNeg) (mn x.toNatClampNeg)) else if w = nI 2 then I 1 (4 * x.toNatClampNeg) else if w = nI 3 then nI (gl_lmap I B hd ld sn x.toNatClampNeg (mn x.toNatClampNeg)).length else if w = nI 4 then nI (hd x.toNatClampNeg) else if w = nI 5 then nI (ld x.toNatClampNeg) else -1) else -1
theorem gl_out {x : Int32} {n k : Nat} (hn : n < 2 ^ 31) (hk : k < n) (h : x.toInt < 0 ∨ (n : Int) - 1 < x.toInt) : ¬ x = nI k := by
  rintro rfl
  rw [nI_toInt (by omega)] at h
  omega
set_option maxHeartbeats 4000000 in
set_option maxRecDepth 100000 in
theorem ct_X9_count {l : Launch} {δ : gl_Del} {I : Nat → Nat → Int32} {L : Nat → Nat → Int64} {B : Nat → Nat → Bool} {lm : Nat} {mn hd ld : Nat → Nat} {sn : Nat → Nat → Nat} {x w : Int32} (h : Nat) (hh : 6 ≤ h) (H : gl_LI I lm mn hd ld sn) : gl_Ct l δ yX9_count (ws_ yX9_count cX9_count 5 ((some FieldType.int))) (gl_rm h 0 0) 0 0 [.ref 0, .int x, .int w] (gl_mL, I, L, B, gl_mR) (gl_Qi fun r S => r = gl_count I B lm mn hd ld sn x w ∧ ∃ I', S = (gl_mL, I', L, B, gl_mR) ∧ gl_fq [39, 40, 47, 48, 49, 50] [57] I I') := by
  refine gl_of (by decide) (Nat.le_of_ble_eq_true rfl) rfl ?_
  intro κ C hQ hlκ hδκ hnL hini
  change gl_Cx κ RX9 _ _ _ at C
  have hlm6 : lm ≤ 6 := H.2.1
  refine j_aload_n C dX9_count_0 rfl 1 rfl ?_
  refine j_iload_n C dX9_count_1 rfl 2 rfl ?_
  refine j_ci C (cs_X9_270 C (ct_X9_isLog (h - 1) (by omega) H.1) rfl rfl (by omega) (by omega) (by omega) rfl (Nat.le_of_ble_eq_true rfl) dX9_count_2) 5 rfl ?_
  rintro _ _ ⟨rfl, rfl⟩
  refine b_if_ne C 10 8 dX9_count_5 (by decide) rfl (fun c_5 => ?_) (fun c_5 => ?_)
  · obtain ⟨lg, hlg, rfl⟩ := (gl_in_iff (by omega)).mp c_5
    have hcl : (nI lg).toNatClampNeg = lg := nI_clamp (by omega)
    have hk := H.2.2 lg hlg
    refine j_iconst (v := nI 0) C dX9_count_10 (by decide) 11 rfl ?_
    refine j_istore_n C dX9_count_11 (Nat.le_of_ble_eq_true rfl) (by rw [hnL]; decide) rfl 12 rfl ?_
    refine j_iload_n C dX9_count_12 rfl 13 rfl ?_
    rcases gl_sw w 6 (by decide) with ⟨k_, hk_, rfl⟩ | ho_
    · rcases (show k_ = 0 ∨ k_ = 1 ∨ k_ = 2 ∨ k_ = 3 ∨ k_ = 4 ∨ k_ = 5 by omega) with rfl | rfl | rfl | rfl | rfl | rfl
      · refine j_tableIn C 52 dX9_count_13 (by decide) (by decide) rfl (by decide) ?_
        refine j_aload_n C dX9_count_52 rfl 53 rfl ?_
        refine j_iload_n C dX9_count_53 rfl 54 rfl ?_
        refine j_ci C (cs_X9_274 C (ct_X9_many (h - 1) (by omega) (by omega)) rfl rfl (by omega) (by omega) (by omega) rfl (Nat.le_of_ble_eq_true rfl) dX9_count_54) 57 rfl ?_
        rintro _ _ ⟨rfl, rfl⟩
        rw [hk.1]
        exact j_iret C hQ ⟨by rw [gl_count, if_pos c_5, hcl, if_pos rfl], _, rfl, gl_fq.rf⟩ (by omega) (by omega) dX9_count_57
      · refine j_tableIn C 58 dX9_count_13 (by decide) (by decide) rfl (by decide) ?_
        have loop : ∀ k j : Nat, j + k = mn lg → gl_J κ 0 0 (gl_mL, I, L, B, gl_mR) 61 [some (.ref 0), some (.int (nI lg)), some (.int (nI 1)), some (.int (nI (gl_gc (B 4) (400 * lg) j))), some (.int (nI j))] [] := by
          intro k
          induction k with
          | zero =>
            intro j hj
            have hjN : j = mn lg := by omega
            subst hjN
            refine j_iload C dX9_count_61 rfl 63 rfl ?_
            refine j_aload_n C dX9_count_63 rfl 64 rfl ?_
            refine j_iload_n C dX9_count_64 rfl 65 rfl ?_
            refine j_ci C (cs_X9_274 C (ct_X9_many (h - 1) (by omega) (by omega)) rfl rfl (by omega) (by omega) (by omega) rfl (Nat.le_of_ble_eq_true rfl) dX9_count_65) 68 rfl ?_
            rintro _ _ ⟨rfl, rfl⟩
            rw [hk.1]
            refine n_icmp_ge C 96 71 dX9_count_68 (by decide) rfl (by omega) (by omega) (fun c_68 => ?_) (fun c_68 => ?_)
            · refine j_iload_n C dX9_count_96 rfl 97 rfl ?_
              exact j_iret C hQ ⟨by rw [gl_count, if_pos c_5, hcl]; rfl, _, rfl, gl_fq.rf⟩ (by omega) (by omega) dX9_count_97
            · exact absurd c_68 (by omega)
          | succ k ih =>
            intro j hj
            refine j_iload C dX9_count_61 rfl 63 rfl ?_
            refine j_aload_n C dX9_count_63 rfl 64 rfl ?_
            refine j_iload_n C dX9_count_64 rfl 65 rfl ?_
            refine j_ci C (cs_X9_274 C (ct_X9_many (h - 1) (by omega) (by omega)) rfl rfl (by omega) (by omega) (by omega) rfl (Nat.le_of_ble_eq_true rfl) dX9_count_65) 68 rfl ?_
            rintro _ _ ⟨rfl, rfl⟩
            rw [hk.1]
            refine n_icmp_ge C 96 71 dX9_count_68 (by decide) rfl (by omega) (by omega) (fun c_68 => ?_) (fun c_68 => ?_)
            · exact absurd c_68 (by omega)
            · refine j_aload_n C dX9_count_71 rfl 72 rfl ?_
              refine gf_X9_20 C rfl rfl dX9_count_72 75 rfl ?_
              refine j_sipush (v := nI 400) C dX9_count_75 (by decide) 78 rfl ?_
              refine j_iload_n C dX9_count_78 rfl 79 rfl ?_
              refine n_imul C dX9_count_79 80 rfl ?_
              refine j_iload C dX9_count_80 rfl 82 rfl ?_
              refine n_iadd C dX9_count_82 83 rfl ?_
              refine j_zald C rfl (by omega) (by decide) dX9_count_83 84 rfl ?_
              refine b_if_eq C 90 87 dX9_count_84 (by decide) rfl (fun c_84 => ?_) (fun c_84 => ?_)
              · refine n_iinc C dX9_count_90 rfl (by rw [hnL]; decide) rfl 93 rfl ?_
                refine j_goto (tgt := 61) C dX9_count_93 (by decide) ?_
                have e : gl_gc (B 4) (400 * lg) (j + 1) = gl_gc (B 4) (400 * lg) j := if_neg (fun q => by rw [c_84] at q; cases q)
                rw [← e]
                exact ih (j + 1) (by omega)
              · refine n_iinc C dX9_count_87 rfl (by rw [hnL]; decide) rfl 90 rfl ?_
                refine n_iinc C dX9_count_90 rfl (by rw [hnL]; decide) rfl 93 rfl ?_
                refine j_goto (tgt := 61) C dX9_count_93 (by decide) ?_
                have e : gl_gc (B 4) (400 * lg) (j + 1) = gl_gc (B 4) (400 * lg) j + 1 := if_pos c_84
                rw [← e]
                exact ih (j + 1) (by omega)
        refine j_iconst (v := nI 0) C dX9_count_58 (by decide) 59 rfl ?_
        refine j_istore C dX9_count_59 (Nat.le_of_ble_eq_true rfl) (by rw [hnL]; decide) rfl 61 rfl ?_
        exact loop (mn lg) 0 (by omega)
      · refine j_tableIn C 98 dX9_count_13 (by decide) (by decide) rfl (by decide) ?_
        refine j_aload_n C dX9_count_98 rfl 99 rfl ?_
        refine gf_X9_9 C rfl rfl dX9_count_99 102 rfl ?_
        refine j_iconst (v := nI 4) C dX9_count_102 (by decide) 103 rfl ?_
        refine j_iload_n C dX9_count_103 rfl 104 rfl ?_
        refine n_imul C dX9_count_104 105 rfl ?_
        refine j_iald C rfl (by omega) (by decide) dX9_count_105 106 rfl ?_
        exact j_iret C hQ ⟨by rw [gl_count, if_pos c_5, hcl]; rfl, _, rfl, gl_fq.rf⟩ (by omega) (by omega) dX9_count_106
      · refine j_tableIn C 107 dX9_count_13 (by decide) (by decide) rfl (by decide) ?_
        refine j_aload_n C dX9_count_107 rfl 108 rfl ?_
        refine j_iload_n C dX9_count_108 rfl 109 rfl ?_
        refine j_aload_n C dX9_count_109 rfl 110 rfl ?_
        refine j_iload_n C dX9_count_110 rfl 111 rfl ?_
        refine j_ci C (cs_X9_274 C (ct_X9_many (h - 1) (by omega) (by omega)) rfl rfl (by omega) (by omega) (by omega) rfl (Nat.le_of_ble_eq_true rfl) dX9_count_111) 114 rfl ?_
        rintro _ _ ⟨rfl, rfl⟩
        rw [hk.1]
        refine j_cv C (cs_X9_260 C (ct_X9_map (n := mn lg) (wn := hd lg + ld lg) (sn := sn lg) (h - 1) (by omega) (by omega) hk.2.1 (H.w hlg) hk.2.2.2.2.1 (fun w hw => (hk.2.2.2.2.2 w hw).1) (fun w hw => by have := (hk.2.2.2.2.2 w hw).2; omega)) rfl rfl (by omega) (by omega) (by omega) rfl (Nat.le_of_ble_eq_true rfl) dX9_count_114) 117 rfl ?_
        rintro _ ⟨I1, rfl, f1, m1⟩
        refine j_aload_n C dX9_count_117 rfl 118 rfl ?_
        refine gf_X9_223 C rfl dX9_count_118 121 rfl ?_
        rw [m1.1.1]
        exact j_iret C hQ ⟨by rw [gl_count, if_pos c_5, hcl]; rfl, _, rfl, f1⟩ (by omega) (by omega) dX9_count_121
      · refine j_tableIn C 122 dX9_count_13 (by decide) (by decide) rfl (by decide) ?_
        refine j_aload_n C dX9_count_122 rfl 123 rfl ?_
        refine gf_X9_9 C rfl rfl dX9_count_123 126 rfl ?_
        refine j_iconst (v := nI 4) C dX9_count_126 (by decide) 127 rfl ?_
        refine j_iload_n C dX9_count_127 rfl 128 rfl ?_
        refine n_imul C dX9_count_128 129 rfl ?_
        refine j_iconst (v := nI 2) C dX9_count_129 (by decide) 130 rfl ?_
        refine n_iadd C dX9_count_130 131 rfl ?_
        refine j_iald C rfl (by omega) (by decide) dX9_count_131 132 rfl ?_
        rw [hk.2.2.1]
        exact j_iret C hQ ⟨by rw [gl_count, if_pos c_5, hcl]; rfl, _, rfl, gl_fq.rf⟩ (by omega) (by omega) dX9_count_132
      · refine j_tableIn C 133 dX9_count_13 (by decide) (by decide) rfl (by decide) ?_
        refine j_aload_n C dX9_count_133 rfl 134 rfl ?_
        refine gf_X9_9 C rfl rfl dX9_count_134 137 rfl ?_
        refine j_iconst (v := nI 4) C dX9_count_137 (by decide) 138 rfl ?_
        refine j_iload_n C dX9_count_138 rfl 139 rfl ?_
        refine n_imul C dX9_count_139 140 rfl ?_
        refine j_iconst (v := nI 3) C dX9_count_140 (by decide) 141 rfl ?_
        refine n_iadd C dX9_count_141 142 rfl ?_
        refine j_iald C rfl (by omega) (by decide) dX9_count_142 143 rfl ?_
        rw [hk.2.2.2.1]
        exact j_iret C hQ ⟨by rw [gl_count, if_pos c_5, hcl]; rfl, _, rfl, gl_fq.rf⟩ (by omega) (by omega) dX9_count_143
    · refine j_tableOut C 144 dX9_count_13 (by omega) (by decide) ?_
      refine j_iconst (v := -1) C dX9_count_144 (by decide) 145 rfl ?_
      exact j_iret C hQ ⟨by rw [gl_count, if_pos c_5, if_neg (gl_out (n := 6) (by decide) (by decide) ho_), if_neg (gl_out (n := 6) (by decide) (by decide) ho_), if_neg (gl_out (n := 6) (by decide) (by decide) ho_), if_neg (gl_out (n := 6) (by decide) (by decide) ho_), if_neg (gl_out (n := 6) (by decide) (by decide) ho_), if_neg (gl_out (n := 6) (by decide) (by decide) ho_)], _, rfl, gl_fq.rf⟩ (by omega) (by omega) dX9_count_145
  · refine j_iconst (v := -1) C dX9_count_8 (by decide) 9 rfl ?_
    exact j_iret C hQ ⟨by rw [gl_count, if_neg (by rw [c_5]; decide)], _, rfl, gl_fq.rf⟩ (by omega) (by omega) dX9_count_9
