/-! MODULE Model, slots: the blocks of a range, stepLog (by gen44.py) -/
set_option maxRecDepth 100000
/-- the blocks from a to b: where, of what level -/
def gl_bls (b : Nat) : Nat → Nat → List (Nat × Nat)
  | 0, _ => []
  | n + 1, a => if a < b then (a, gl_lv a b) :: gl_bls b n (a + 2 ^ gl_lv a b) else []
theorem gl_bls_s {a b n : Nat} (h : a < b) : gl_bls b (n + 1) a = (a, gl_lv a b) :: gl_bls b n (a + 2 ^ gl_lv a b) := if_pos h
theorem gl_bls_e {b n : Nat} : gl_bls b n b = [] := by
  cases n with
  | zero => rfl
  | succ n => exact if_neg (Nat.lt_irrefl b)
theorem gl_lvf_max {a b : Nat} : ∀ (f r : Nat), b < 2 ^ (r + f + 1) → ¬ (a % 2 ^ (gl_lvf a b f r + 1) = 0 ∧ a + 2 ^ (gl_lvf a b f r + 1) ≤ b)
  | 0, r, h => fun q => by
    have h2 : a + 2 ^ (r + 1) ≤ b := q.2
    have h3 : b < 2 ^ (r + 1) := h
    omega
  | f + 1, r, h => by
    unfold gl_lvf
    by_cases hc : a % 2 ^ (r + 1) = 0 ∧ a + 2 ^ (r + 1) ≤ b
    · rw [if_pos hc]
      exact gl_lvf_max f (r + 1) (by rw [show r + 1 + f + 1 = r + (f + 1) + 1 by omega]; exact h)
    · rw [if_neg hc]; exact hc
theorem gl_lv_max {a b : Nat} (hb : b ≤ 400) : ¬ (a % 2 ^ (gl_lv a b + 1) = 0 ∧ a + 2 ^ (gl_lv a b + 1) ≤ b) := gl_lvf_max 9 0 (Nat.lt_of_le_of_lt hb (by decide))
theorem gl_mod_le {a e v : Nat} (h : a % 2 ^ v = 0) (hev : e ≤ v) : a % 2 ^ e = 0 := Nat.mod_eq_zero_of_dvd (Nat.dvd_trans (Nat.pow_dvd_pow 2 hev) (Nat.dvd_of_mod_eq_zero h))
theorem gl_add_mod {a e : Nat} (h : a % 2 ^ e = 0) : (a + 2 ^ e) % 2 ^ e = 0 := by rw [Nat.add_mod_right]; exact h
theorem gl_odd {a e : Nat} (h1 : a % 2 ^ e = 0) (hm : ¬ a % 2 ^ (e + 1) = 0) : (a + 2 ^ e) % 2 ^ (e + 1) = 0 := by
  obtain ⟨c, rfl⟩ := Nat.dvd_of_mod_eq_zero h1
  have hodd : c % 2 = 1 := by
    rcases Nat.mod_two_eq_zero_or_one c with q | q
    · exfalso
      obtain ⟨d, rfl⟩ := Nat.dvd_of_mod_eq_zero q
      refine hm ?_
      rw [Nat.pow_succ, ← Nat.mul_assoc]
      exact Nat.mul_mod_right _ _
    · exact q
  obtain ⟨d, hd⟩ : ∃ d, c + 1 = 2 * d := ⟨(c + 1) / 2, by omega⟩
  rw [show 2 ^ e * c + 2 ^ e = 2 ^ e * (c + 1) by rw [Nat.mul_succ], hd, Nat.pow_succ, ← Nat.mul_assoc]
  exact Nat.mul_mod_right _ _
/-- going down: the rest is less than what a is even by -/
theorem gl_bls_dn {b : Nat} (hb : b ≤ 400) : ∀ (m l : Nat), l ≤ m → ∀ (n a : Nat), a % 2 ^ l = 0 → b - a < 2 ^ l → (gl_bls b n a).length ≤ l := by
  intro m
  induction m with
  | zero =>
    intro l hl n a h1 h2
    obtain rfl : l = 0 := by omega
    have : b ≤ a := by simp at h2; omega
    cases n with
    | zero => exact Nat.le_refl 0
    | succ n => rw [gl_bls, if_neg (by omega)]; exact Nat.le_refl 0
  | succ m ih =>
    intro l hl n a h1 h2
    cases n with
    | zero => exact Nat.zero_le _
    | succ n =>
      rcases Nat.lt_or_ge a b with hab | hab
      · rw [gl_bls_s hab, List.length_cons]
        have hk := gl_lv_ok hab
        have hmx := gl_lv_max (a := a) hb
        have h0 := Nat.two_pow_pos (gl_lv a b)
        have hlt : gl_lv a b < l := (Nat.pow_lt_pow_iff_right (show 1 < 2 by decide)).mp (by omega)
        have h3 : ¬ a + 2 ^ (gl_lv a b + 1) ≤ b := fun q => hmx ⟨gl_mod_le h1 hlt, q⟩
        rw [Nat.pow_succ] at h3
        have := ih (gl_lv a b) (by omega) n (a + 2 ^ gl_lv a b) (gl_add_mod hk.1) (by omega)
        omega
      · rw [gl_bls, if_neg (by omega)]; exact Nat.zero_le _
theorem gl_bls_up {b : Nat} (hb : b ≤ 400) : ∀ (k n a : Nat), k ≤ 9 → a % 2 ^ (9 - k) = 0 → a ≤ b → (gl_bls b n a).length ≤ k + 10 := by
  intro k
  induction k with
  | zero =>
    intro n a _ h1 hab
    have h1 : a % 512 = 0 := h1
    have := gl_bls_dn hb 9 9 (Nat.le_refl 9) n a h1 (by have : (2 : Nat) ^ 9 = 512 := rfl; omega)
    omega
  | succ k ih =>
    intro n a hk9 h1 hab
    cases n with
    | zero => exact Nat.zero_le _
    | succ n =>
      rcases Nat.lt_or_ge a b with hlt | hge
      · rw [gl_bls_s hlt, List.length_cons]
        have hk := gl_lv_ok hlt
        have hmx := gl_lv_max (a := a) hb
        have h9 : gl_lv a b ≤ 9 := gl_lv_le
        by_cases hm : a % 2 ^ (gl_lv a b + 1) = 0
        · have h3 : ¬ a + 2 ^ (gl_lv a b + 1) ≤ b := fun q => hmx ⟨hm, q⟩
          rw [Nat.pow_succ] at h3
          have := gl_bls_dn hb (gl_lv a b) (gl_lv a b) (Nat.le_refl _) n (a + 2 ^ gl_lv a b) (gl_add_mod hk.1) (by omega)
          omega
        · have hev : 9 - (k + 1) ≤ gl_lv a b := by
            rcases Nat.lt_or_ge (gl_lv a b) (9 - (k + 1)) with q | q
            · exact absurd (gl_mod_le h1 q) hm
            · exact q
          have e1 : (a + 2 ^ gl_lv a b) % 2 ^ (gl_lv a b + 1) = 0 := gl_odd hk.1 hm
          have := ih n (a + 2 ^ gl_lv a b) (by omega) (gl_mod_le e1 (by omega)) hk.2
          omega
      · rw [gl_bls, if_neg (by omega)]; exact Nat.zero_le _
theorem gl_bls_len {b n a : Nat} (hb : b ≤ 400) (hab : a ≤ b) : (gl_bls b n a).length ≤ 19 := gl_bls_up hb 9 n a (Nat.le_refl 9) (Nat.mod_one a) hab
/-- rows come one behind another -/
def gl_wrs (base : Nat) : List (Nat → Int32) → Nat → (Nat → Int32) → Nat → Int32
  | [], _, t => t
  | r :: rs, m, t => gl_wrs base rs (m + 1) (va_cpy r t 0 (base + 8 * m) 8)
theorem gl_wrs_lo {base : Nat} : ∀ (rs : List (Nat → Int32)) (m : Nat) (t : Nat → Int32) (k : Nat), k < base + 8 * m ∨ base + 8 * (m + rs.length) ≤ k → gl_wrs base rs m t k = t k
  | [], _, _, _, _ => rfl
  | r :: rs, m, t, k, h => by
    rw [gl_wrs, gl_wrs_lo rs (m + 1) _ k (by simp only [List.length_cons] at h; omega), pk_cpy_out (by simp only [List.length_cons] at h; omega)]
theorem gl_wrs_at {base : Nat} : ∀ (rs : List (Nat → Int32)) (m : Nat) (t : Nat → Int32) (i : Nat) (hi : i < rs.length) (j : Nat), j < 8 → gl_wrs base rs m t (base + 8 * (m + i) + j) = rs[i] j
  | r :: rs, m, t, 0, _, j, hj => by
    rw [gl_wrs, gl_wrs_lo rs (m + 1) _ _ (by omega), pk_cpy_in (by omega) (by omega)]
    show r _ = r j
    congr 1; omega
  | r :: rs, m, t, i + 1, hi, j, hj => by
    have := gl_wrs_at (base := base) rs (m + 1) (va_cpy r t 0 (base + 8 * m) 8) i (by simpa using hi) j hj
    rw [gl_wrs, show m + (i + 1) = m + 1 + i by omega, this]
    simp
theorem gl_wrs_congr {base : Nat} : ∀ {rs rs' : List (Nat → Int32)} {m : Nat} {t : Nat → Int32}, rs.length = rs'.length → (∀ i (h : i < rs.length) (h' : i < rs'.length), ∀ j, j < 8 → rs[i] j = rs'[i] j) → gl_wrs base rs m t = gl_wrs base rs' m t
  | [], [], _, _, _, _ => rfl
  | r :: rs, r' :: rs', m, t, hl, h => by
    rw [gl_wrs, gl_wrs, gl_cpy_congr (a' := r') (fun j hj => h 0 (by simp) (by simp) j hj)]
    exact gl_wrs_congr (by simpa using hl) (fun i h1 h2 j hj => by
      have := h (i + 1) (by simpa using h1) (by simpa using h2) j hj
      simpa using this)
theorem gl_wrs_app {base : Nat} : ∀ (r1 r2 : List (Nat → Int32)) (m : Nat) (t : Nat → Int32), gl_wrs base (r1 ++ r2) m t = gl_wrs base r2 (m + r1.length) (gl_wrs base r1 m t)
  | [], r2, m, t => rfl
  | r :: r1, r2, m, t => by
    rw [List.cons_append, gl_wrs, gl_wrs, gl_wrs_app r1 r2, List.length_cons, show m + 1 + r1.length = m + (r1.length + 1) by omega]
/-- the sums of a log's blocks from a to b -/
def gl_rws (K : Nat → Int32) (V : Nat → Int64) (a b : Nat) : List (Nat → Int32) := (gl_bls b (b - a) a).map fun q => gl_bs K V q.2 q.1
theorem gl_rws_len {K : Nat → Int32} {V : Nat → Int64} {a b : Nat} (hb : b ≤ 400) (hab : a ≤ b) : (gl_rws K V a b).length ≤ 19 := by
  unfold gl_rws
  rw [List.length_map]
  exact gl_bls_len hb hab
set_option maxHeartbeats 4000000 in
set_option maxRecDepth 100000 in
theorem ct_X9_stepLog {l : Launch} {δ : gl_Del} {I : Nat → Nat → Int32} {L : Nat → Nat → Int64} {B : Nat → Nat → Bool} {s lg a0 b m : Nat} (h : Nat) (hh : 14 ≤ h) (hs : s < 16) (hlg : lg < 6) (hab : a0 ≤ b) (hb : b ≤ 400) (hm : I 9 (8 * s + 1) = nI m) (hmb : m ≤ 200) : gl_Ct l δ yX9_stepLog (ws_ yX9_stepLog cX9_stepLog 7 none) (gl_rm h 0 0) 0 0 [.ref 0, .int (nI s), .int (nI lg), .int (nI a0), .int (nI b)] (gl_mL, I, L, B, gl_mR) (gl_Qv fun S => ∃ I', S = (gl_mL, I', L, B, gl_mR) ∧ gl_fq [9, 12, 39, 40, 41, 46] [] I I' ∧ I' 9 = va_up (I 9) (8 * s + 1) (nI (m + (gl_rws (fun i => I 2 (400 * lg + i)) (fun i => L 3 (400 * lg + i)) a0 b).length)) ∧ I' 12 = gl_wrs (8 * (256 * s)) (gl_rws (fun i => I 2 (400 * lg + i)) (fun i => L 3 (400 * lg + i)) a0 b) m (I 12)) := by
  refine gl_of (by decide) (Nat.le_of_ble_eq_true rfl) rfl ?_
  intro κ C hQ hlκ hδκ hnL hini
  change gl_Cx κ RX9 _ _ _ at C
  have hlen19 := gl_bls_len (n := b - a0) hb hab
  have loop : ∀ (n a m1 : Nat) (I1 : Nat → Nat → Int32), b - a ≤ n → a ≤ b → gl_fq [9, 12, 39, 40, 41, 46] [] I I1 → I1 9 = va_up (I 9) (8 * s + 1) (nI m1) → m1 + (gl_bls b n a).length = m + (gl_bls b (b - a0) a0).length → gl_wrs (8 * (256 * s)) ((gl_bls b n a).map (fun q : Nat × Nat => gl_bs (fun i => I 2 (400 * lg + i)) (fun i => L 3 (400 * lg + i)) q.2 q.1)) m1 (I1 12) = gl_wrs (8 * (256 * s)) ((gl_bls b (b - a0) a0).map (fun q : Nat × Nat => gl_bs (fun i => I 2 (400 * lg + i)) (fun i => L 3 (400 * lg + i)) q.2 q.1)) m (I 12) → ∀ x6 : Option Value, gl_J κ 0 0 (gl_mL, I1, L, B, gl_mR) 3 [some (.ref 0), some (.int (nI s)), some (.int (nI lg)), some (.int (nI a0)), some (.int (nI b)), some (.int (nI a)), x6] [] := by
    intro n
    induction n with
    | zero =>
      intro a m1 I1 hn hab1 hf h9 hlen hwr x6
      have hab2 : a = b := by omega
      subst hab2
      rw [gl_bls_e] at hlen hwr
      refine j_iload C dX9_stepLog_3 rfl 5 rfl ?_
      refine j_iload C dX9_stepLog_5 rfl 7 rfl ?_
      refine n_icmp_ge C 54 10 dX9_stepLog_7 (by decide) rfl (by omega) (by omega) (fun c_7 => ?_) (fun c_7 => ?_)
      · exact j_ret C hQ ⟨_, rfl, hf, by rw [h9, gl_rws, List.length_map, ← hlen]; rfl, by rw [gl_rws, ← hwr]; rfl⟩ (by omega) (by omega) dX9_stepLog_54
      · exact absurd c_7 (by omega)
    | succ n ih =>
      intro a m1 I1 hn hab1 hf h9 hlen hwr x6
      rcases Nat.lt_or_ge a b with hlt | hge
      · have hk := gl_lv_ok hlt
        have hk9 : gl_lv a b ≤ 9 := gl_lv_le
        have h0 := Nat.two_pow_pos (gl_lv a b)
        refine j_iload C dX9_stepLog_3 rfl 5 rfl ?_
        refine j_iload C dX9_stepLog_5 rfl 7 rfl ?_
        refine n_icmp_ge C 54 10 dX9_stepLog_7 (by decide) rfl (by omega) (by omega) (fun c_7 => ?_) (fun c_7 => ?_)
        · exact absurd c_7 (by omega)
        · refine j_iload C dX9_stepLog_10 rfl 12 rfl ?_
          refine j_iload C dX9_stepLog_12 rfl 14 rfl ?_
          refine j_ci C (cs_X9_212 C (ct_X9_blockAt (h - 1) (by omega) (by omega) (by omega)) rfl (by omega) (by omega) (by omega) rfl (Nat.le_of_ble_eq_true rfl) dX9_stepLog_14) 17 rfl ?_
          rintro _ _ ⟨rfl, rfl⟩
          refine j_istore C dX9_stepLog_17 (Nat.le_of_ble_eq_true rfl) (by rw [hnL]; decide) rfl 19 rfl ?_
          refine j_aload_n C dX9_stepLog_19 rfl 20 rfl ?_
          refine j_iload_n C dX9_stepLog_20 rfl 21 rfl ?_
          refine j_iload C dX9_stepLog_21 rfl 23 rfl ?_
          refine j_iload C dX9_stepLog_23 rfl 25 rfl ?_
          refine j_iconst (v := nI 0) C dX9_stepLog_25 (by decide) 26 rfl ?_
          refine j_aload_n C dX9_stepLog_26 rfl 27 rfl ?_
          refine gf_X9_148 C rfl rfl dX9_stepLog_27 30 rfl ?_
          refine j_iconst (v := nI 0) C dX9_stepLog_30 (by decide) 31 rfl ?_
          refine j_cv C (cs_X9_200 C (ct_X9_blockSum (gl_lv a b) (I := I1) (fr := a) (lv := 0) (to := 46) (nt := 8) (at_ := 0) (h - 1) (by omega) hlg (by omega) (by omega) rfl (by decide) (by decide) (by decide) (by decide)) rfl rfl (by omega) (by omega) (by omega) rfl (Nat.le_of_ble_eq_true rfl) dX9_stepLog_31) 34 rfl ?_
          rintro _ ⟨I2, rfl, h2⟩
          have hf2 := (h2.fq (by decide)).mo (X' := [9, 12, 39, 40, 41, 46]) (Y' := []) (by decide) (by decide)
          have g9 : I2 9 = I1 9 := h2.1 9 (by decide) (by decide) (by decide) (by decide)
          have g12 : I2 12 = I1 12 := h2.1 12 (by decide) (by decide) (by decide) (by decide)
          have e2 : I1 2 = I 2 := hf.1 2 (by decide) (by decide)
          have hrow : ∀ t, t < 8 → I2 46 (0 + t) = gl_bs (fun i => I 2 (400 * lg + i)) (fun i => L 3 (400 * lg + i)) (gl_lv a b) a t := fun t ht => by rw [Nat.zero_add, h2.2.1 (by decide), gl_cpy_lt ht, e2]
          refine j_aload_n C dX9_stepLog_34 rfl 35 rfl ?_
          refine j_iload_n C dX9_stepLog_35 rfl 36 rfl ?_
          refine j_aload_n C dX9_stepLog_36 rfl 37 rfl ?_
          refine gf_X9_148 C rfl rfl dX9_stepLog_37 40 rfl ?_
          refine j_iconst (v := nI 0) C dX9_stepLog_40 (by decide) 41 rfl ?_
          refine j_cv C (cs_X9_288 C (ct_X9_stp (I := I2) (s := s) (m := m1) (rw_ := 46) (nr := 8) (q_ := 0) (h - 1) (by omega) hs (by rw [g9, h9, gl_up_eq]) (by omega) rfl (by decide) (by decide) (by decide)) rfl rfl (by omega) (by omega) (by omega) rfl (Nat.le_of_ble_eq_true rfl) dX9_stepLog_41) 44 rfl ?_
          rintro _ rfl
          refine j_iload C dX9_stepLog_44 rfl 46 rfl ?_
          refine j_iload C dX9_stepLog_46 rfl 48 rfl ?_
          refine n_iadd C dX9_stepLog_48 49 rfl ?_
          refine j_istore C dX9_stepLog_49 (Nat.le_of_ble_eq_true rfl) (by rw [hnL]; decide) rfl 51 rfl ?_
          refine j_goto (tgt := 3) C dX9_stepLog_51 (by decide) ?_
          refine ih (a + 2 ^ gl_lv a b) (m1 + 1) _ (by omega) hk.2 (((hf.tr hf2).up (by decide) (by decide)).u2 (by decide) (by decide)) ?_ ?_ ?_ _
          · rw [gl_u2_eq, gl_up_ne (show (9 : Nat) ≠ 12 by decide), g9, h9, gl_up_up]
          · rw [← hlen, gl_bls_s hlt, List.length_cons]; omega
          · rw [← hwr, gl_bls_s hlt, List.map_cons, gl_wrs, gl_u2_ne (show (12 : Nat) ≠ 9 by decide), gl_up_eq, gl_cpy_congr hrow, g12, show 8 * (256 * s + m1) = 8 * (256 * s) + 8 * m1 by omega]
      · have hab2 : a = b := by omega
        subst hab2
        rw [gl_bls_e] at hlen hwr
        refine j_iload C dX9_stepLog_3 rfl 5 rfl ?_
        refine j_iload C dX9_stepLog_5 rfl 7 rfl ?_
        refine n_icmp_ge C 54 10 dX9_stepLog_7 (by decide) rfl (by omega) (by omega) (fun c_7 => ?_) (fun c_7 => ?_)
        · exact j_ret C hQ ⟨_, rfl, hf, by rw [h9, gl_rws, List.length_map, ← hlen]; rfl, by rw [gl_rws, ← hwr]; rfl⟩ (by omega) (by omega) dX9_stepLog_54
        · exact absurd c_7 (by omega)
  refine j_iload_n C dX9_stepLog_0 rfl 1 rfl ?_
  refine j_istore C dX9_stepLog_1 (Nat.le_of_ble_eq_true rfl) (by rw [hnL]; decide) rfl 3 rfl ?_
  exact loop (b - a0) a0 m I (Nat.le_refl _) hab gl_fq.rf (by rw [← hm, gl_up_self]) rfl rfl _
