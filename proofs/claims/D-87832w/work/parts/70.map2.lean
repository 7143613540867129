/-! MODULE GlassLog, maps: of, parting, tree, top (by gen70.py) -/
set_option maxRecDepth 100000
theorem gl_lb_or (K : Nat → Int32) (ky : Int32) : ∀ i, gl_lb K ky i = -1 ∨ ∃ v, v < i ∧ gl_lb K ky i = nI v
  | 0 => Or.inl rfl
  | i + 1 => by
    unfold gl_lb
    by_cases h : K i = ky
    · rw [if_pos h]; exact Or.inr ⟨i, by omega, rfl⟩
    · rw [if_neg h]
      rcases gl_lb_or K ky i with q | ⟨v, hv, q⟩
      · exact Or.inl q
      · exact Or.inr ⟨v, by omega, q⟩
theorem gl_lat_or {K f : Nat → Int32} {sn : Nat → Nat} {lg : Nat → Bool} {wn n : Nat} {ky : Int32} (hn : n ≤ 400) (hs : ∀ w, w < wn → sn w ≤ 400) : gl_lat K f sn lg wn n ky = -1 ∨ ∃ v, v < 400 ∧ gl_lat K f sn lg wn n ky = nI v := by
  unfold gl_lat
  by_cases h : gl_ff f ky wn 0 < wn ∧ sn (gl_ff f ky wn 0) ≤ n
  · rw [if_pos h]
    by_cases h2 : lg (gl_ff f ky wn 0) = true
    · rw [if_pos h2]
      have := hs _ h.1
      rcases gl_lb_or K ky (sn (gl_ff f ky wn 0)) with q | ⟨v, hv, q⟩
      · exact Or.inl q
      · exact Or.inr ⟨v, by omega, q⟩
    · rw [if_neg h2]; exact Or.inl rfl
  · rw [if_neg h]
    rcases gl_lb_or K ky n with q | ⟨v, hv, q⟩
    · exact Or.inl q
    · exact Or.inr ⟨v, by omega, q⟩
set_option maxHeartbeats 4000000 in
set_option maxRecDepth 100000 in
theorem ct_X8_of {l : Launch} {δ : gl_Del} {Λ : gl_Lay} {I : Nat → Nat → Int32} {L : Nat → Nat → Int64} {B : Nat → Nat → Bool} {R : Nat → Nat → Option Nat} {lo n wn : Nat} {sn : Nat → Nat} (h : Nat) (hh : 5 ≤ h) (hG : gl_GL Λ R) (hL : gl_LL Λ R lo) (hl : lo + 19 ≤ 690 ∨ 701 ≤ lo) (hnb : n ≤ 400) (hw : I lo 10 = nI wn) (hw1 : wn ≤ 100) (hsn : ∀ w, w < wn → I (lo + 3) w = nI (sn w)) (hsb : ∀ w, w < wn → sn w ≤ 400) : gl_Ct l δ yX8_of (ws_ yX8_of cX8_of 5 none) (gl_rm h 0 0) 0 0 [.ref 695, .ref lo, .int (nI n)] (Λ, I, L, B, R) (gl_Qv fun S => ∃ I' m', S = (Λ, I', L, B, R) ∧ gl_fr 690 701 I I' ∧ gl_gm I' m' ∧ gl_srt m' ∧ m'.length ≤ n ∧ (∀ q, q ∈ m' ↔ (q.2 < 400 ∧ gl_lat (I (lo + 1)) (I (lo + 2)) sn (B (lo + 7)) wn n q.1 = nI q.2 ∧ ∃ j, 0 ≤ j ∧ j < n ∧ (I (lo + 1)) j = q.1))) := by
  refine gl_of (by decide) (Nat.le_of_ble_eq_true rfl) rfl ?_
  intro κ C hQ hlκ hδκ hnL hini
  change gl_Cx κ RX8 _ _ _ at C
  have loop : ∀ i : Nat, i ≤ n → ∀ (I1 : Nat → Nat → Int32) (m1 : gl_Mp) (x4 : Option Value), gl_fr 690 701 I I1 → gl_gm I1 m1 → gl_srt m1 → m1.length ≤ n - i → (∀ q, q ∈ m1 ↔ (q.2 < 400 ∧ gl_lat (I (lo + 1)) (I (lo + 2)) sn (B (lo + 7)) wn n q.1 = nI q.2 ∧ ∃ j, i ≤ j ∧ j < n ∧ (I (lo + 1)) j = q.1)) → gl_J κ 0 0 (Λ, I1, L, B, R) 9 [some (.ref 695), some (.ref lo), some (.int (nI n)), some (.int (nI i + (-1))), x4] [] := by
    intro i
    induction i with
    | zero =>
      intro hi I1 m1 x4 hf1 hm1 hs1 hl1 hq1
      refine j_iload_n C dX8_of_9 rfl 10 rfl ?_
      refine j_if_lt C 49 13 dX8_of_10 (by decide) rfl (fun c_10 => ?_) (fun c_10 => ?_)
      · exact j_ret C hQ ⟨_, m1, rfl, hf1, hm1, hs1, hl1, hq1⟩ (by omega) (by omega) dX8_of_49
      · exact absurd (by decide) c_10
    | succ i ih =>
      intro hi I1 m1 x4 hf1 hm1 hs1 hl1 hq1
      rw [pk_m1]
      refine j_iload_n C dX8_of_9 rfl 10 rfl ?_
      refine j_if_lt C 49 13 dX8_of_10 (by decide) rfl (fun c_10 => ?_) (fun c_10 => ?_)
      · exact absurd c_10 (nI_pos (by omega))
      · refine j_aload_n C dX8_of_13 rfl 14 rfl ?_
        refine j_iload_n C dX8_of_14 rfl 15 rfl ?_
        refine j_aload_n C dX8_of_15 rfl 16 rfl ?_
        refine gf_X8_35 C hL.o hL.r0 dX8_of_16 19 rfl ?_
        refine j_iload_n C dX8_of_19 rfl 20 rfl ?_
        refine j_iald C hL.k1 (by omega) (by decide) dX8_of_20 21 rfl ?_
        rw [hf1 (lo + 1) (by omega)]
        refine j_ci C (cs_X8_38 C (ct_X2_latest (I := I1) (wn := wn) (n := n) (sn := sn) (h - 1) (by omega) hL (by rw [hf1 lo (by omega)]; exact hw) hw1 (fun w q => by rw [hf1 (lo + 3) (by omega)]; exact hsn w q) hsb hnb) hL.o rfl (by omega) (by omega) (by omega) rfl (Nat.le_of_ble_eq_true rfl) dX8_of_21) 24 rfl ?_
        rintro _ _ ⟨rfl, rfl⟩
        rw [hf1 (lo + 1) (by omega), hf1 (lo + 2) (by omega)]
        refine j_istore C dX8_of_24 (Nat.le_of_ble_eq_true rfl) (by rw [hnL]; decide) rfl 26 rfl ?_
        refine j_iload C dX8_of_26 rfl 28 rfl ?_
        refine j_if_lt C 43 31 dX8_of_28 (by decide) rfl (fun c_28 => ?_) (fun c_28 => ?_)
        · refine j_iinc C dX8_of_43 rfl rfl (by rw [hnL]; decide) rfl 46 rfl ?_
          refine j_goto (tgt := 9) C dX8_of_46 (by decide) ?_
          refine ih (by omega) I1 m1 _ hf1 hm1 hs1 (by omega) (fun q => ?_)
          rw [hq1]
          constructor
          · rintro ⟨a1, a2, j, b1, b2, b3⟩
            exact ⟨a1, a2, j, by omega, b2, b3⟩
          · rintro ⟨a1, a2, j, b1, b2, b3⟩
            refine ⟨a1, a2, j, ?_, b2, b3⟩
            rcases Nat.lt_or_ge i j with z | z
            · omega
            · obtain rfl : j = i := by omega
              rw [b3, a2] at c_28
              exact absurd c_28 (nI_pos (by omega))
        · obtain ⟨v, hv4, hv⟩ : ∃ v, v < 400 ∧ gl_lat (I (lo + 1)) (I (lo + 2)) sn (B (lo + 7)) wn n ((I (lo + 1)) i) = nI v := by
            rcases gl_lat_or (K := (I (lo + 1))) (f := I (lo + 2)) (sn := sn) (lg := B (lo + 7)) (wn := wn) (n := n) (ky := (I (lo + 1)) i) hnb hsb with q | q
            · rw [q] at c_28; exact absurd (by decide) c_28
            · exact q
          rw [hv]
          refine j_aload_n C dX8_of_31 rfl 32 rfl ?_
          refine j_aload_n C dX8_of_32 rfl 33 rfl ?_
          refine gf_X8_35 C hL.o hL.r0 dX8_of_33 36 rfl ?_
          refine j_iload_n C dX8_of_36 rfl 37 rfl ?_
          refine j_iald C hL.k1 (by omega) (by decide) dX8_of_37 38 rfl ?_
          rw [hf1 (lo + 1) (by omega)]
          refine j_iload C dX8_of_38 rfl 40 rfl ?_
          refine j_cv C (cs_X8_41 C (ct_X8_put (I := I1) (m := m1) (v := v) (h - 1) (by omega) hG hm1 hs1 (by omega)) hG.m0 rfl (by omega) (by omega) (by omega) rfl (Nat.le_of_ble_eq_true rfl) dX8_of_40) 43 rfl ?_
          rintro _ ⟨I2, m2, rfl, hf2, hm2, hs2, hl2, hq2⟩
          refine j_iinc C dX8_of_43 rfl rfl (by rw [hnL]; decide) rfl 46 rfl ?_
          refine j_goto (tgt := 9) C dX8_of_46 (by decide) ?_
          refine ih (by omega) I2 m2 _ (hf1.tr hf2) hm2 hs2 (by omega) (fun q => ?_)
          rw [hq2, hq1]
          constructor
          · rintro (⟨a1, a2, j, b1, b2, b3⟩ | ⟨rfl, a1⟩)
            · exact ⟨a1, a2, j, by omega, b2, b3⟩
            · exact ⟨hv4, hv, i, Nat.le_refl _, by omega, rfl⟩
          · rintro ⟨a1, a2, j, b1, b2, b3⟩
            rcases Nat.lt_or_ge i j with z | z
            · exact Or.inl ⟨a1, a2, j, by omega, b2, b3⟩
            · obtain rfl : j = i := by omega
              have e2 : q.2 = v := by
                rw [← b3, hv] at a2
                exact ((nI_eq (by omega) (by omega)).mp a2).symm
              by_cases hin : ∀ k, k < m1.length → (gl_at m1 k).1 ≠ (I (lo + 1)) j
              · refine Or.inr ⟨?_, hin⟩
                obtain ⟨q1, q2⟩ := q
                exact Prod.ext b3.symm e2
              · obtain ⟨k, hk_⟩ := Classical.not_forall.mp hin
                obtain ⟨k1, k2⟩ := Classical.not_imp.mp hk_
                have k3 : (gl_at m1 k).1 = (I (lo + 1)) j := Classical.not_not.mp k2
                obtain ⟨a4, a5, j2, b4, b5, b6⟩ := (hq1 (gl_at m1 k)).mp (gl_at_mem.mpr ⟨k, k1, rfl⟩)
                exact Or.inl ⟨a1, a2, j2, b4, b5, by rw [b6, k3, b3]⟩
  refine j_aload_n C dX8_of_0 rfl 1 rfl ?_
  refine j_iconst (v := nI 0) C dX8_of_1 (by decide) 2 rfl ?_
  refine pf_X8_31 C hG.m0 dX8_of_2 5 rfl ?_
  refine j_iload_n C dX8_of_5 rfl 6 rfl ?_
  refine j_iconst (v := nI 1) C dX8_of_6 (by decide) 7 rfl ?_
  refine j_isub C dX8_of_7 8 rfl ?_
  rw [show nI n - nI 1 = nI n + (-1) by rw [Int32.sub_eq_add_neg]; rfl]
  refine j_istore_n C dX8_of_8 (Nat.le_of_ble_eq_true rfl) (by rw [hnL]; decide) rfl 9 rfl ?_
  refine loop n (Nat.le_refl _) _ [] none (gl_fr.rf.u2 (by decide) (by decide)) ⟨by rw [gl_u2_eq, gl_up_eq]; rfl, fun i hi => absurd hi (by simp)⟩ (fun i j _ hj => absurd hj (by simp)) (by simp) (fun q => ⟨fun z => absurd z (by simp), ?_⟩)
  rintro ⟨_, _, j, h1, h2, _⟩
  omega
theorem gl_at_take {l : gl_Mp} {p i : Nat} (h : i < p) : gl_at (l.take p) i = gl_at l i := by
  unfold gl_at
  rw [List.getD_eq_getElem?_getD, List.getD_eq_getElem?_getD, List.getElem?_take_of_lt h]
theorem gl_at_drop {l : gl_Mp} {p i : Nat} : gl_at (l.drop p) i = gl_at l (p + i) := by
  unfold gl_at
  rw [List.getD_eq_getElem?_getD, List.getD_eq_getElem?_getD, List.getElem?_drop]
theorem gl_flt {l : gl_Mp} {p : Nat} {b : Int32 × Nat → Bool} (h1 : ∀ i, i < p → b (gl_at l i) = false) (h2 : ∀ i, p ≤ i → i < l.length → b (gl_at l i) = true) (hp : p ≤ l.length) : l.filter (fun z => !b z) = l.take p ∧ l.filter (fun z => b z) = l.drop p := by
  have a1 : ∀ x ∈ l.take p, b x = false := by
    intro x hx
    obtain ⟨i, hi, rfl⟩ := gl_at_mem.mp hx
    rw [List.length_take] at hi
    rw [gl_at_take (by omega)]
    exact h1 i (by omega)
  have a2 : ∀ x ∈ l.drop p, b x = true := by
    intro x hx
    obtain ⟨i, hi, rfl⟩ := gl_at_mem.mp hx
    rw [List.length_drop] at hi
    rw [gl_at_drop]
    exact h2 (p + i) (by omega) (by omega)
  refine ⟨?_, ?_⟩
  · rw [← List.take_append_drop p l, List.filter_append, List.take_append_drop, List.filter_eq_self.mpr (fun x hx => by rw [a1 x hx]; rfl), List.filter_eq_nil_iff.mpr (fun x hx => by rw [a2 x hx]; decide), List.append_nil]
  · rw [← List.take_append_drop p l, List.filter_append, List.take_append_drop, List.filter_eq_nil_iff.mpr (fun x hx => by rw [a1 x hx]; decide), List.filter_eq_self.mpr (fun x hx => a2 x hx), List.nil_append]
set_option maxHeartbeats 4000000 in
set_option maxRecDepth 100000 in
theorem ct_X8_parting {l_ : Launch} {δ : gl_Del} {Λ : gl_Lay} {I : Nat → Nat → Int32} {L : Nat → Nat → Int64} {B : Nat → Nat → Bool} {R : Nat → Nat → Option Nat} {m l : gl_Mp} {low high d : Nat} (h : Nat) (hh : 2 ≤ h) (hG : gl_GL Λ R) (hm : gl_gm I m) (hml : m.length ≤ 400) (hseg : ∀ i, i < l.length → gl_at m (low + i) = gl_at l i) (hhi : high = low + l.length) (hhm : high ≤ m.length) (hso : gl_srt l) (hag : ∀ i j, i < l.length → j < l.length → gl_wv (gl_at l i).1 / 2 ^ (256 - d) = gl_wv (gl_at l j).1 / 2 ^ (256 - d)) (hd : d < 256) : gl_Ct l_ δ yX8_parting (ws_ yX8_parting cX8_parting 5 ((some FieldType.int))) (gl_rm h 0 0) 0 0 [.ref 695, .int (nI low), .int (nI high), .int (nI d)] (Λ, I, L, B, R) (gl_Qi fun r S => ∃ p, r = nI (low + p) ∧ p ≤ l.length ∧ (∀ i, i < p → gl_bit (gl_way (gl_at l i).1) d = false) ∧ (∀ i, p ≤ i → i < l.length → gl_bit (gl_way (gl_at l i).1) d = true) ∧ S = (Λ, I, L, B, R)) := by
  refine gl_of (by decide) (Nat.le_of_ble_eq_true rfl) rfl ?_
  intro κ C hQ hlκ hδκ hnL hini
  change gl_Cx κ RX8 _ _ _ at C
  subst hhi
  have loop : ∀ c j : Nat, j + c = l.length → (∀ i, i < j → gl_bit (gl_way (gl_at l i).1) d = false) → gl_J κ 0 0 (Λ, I, L, B, R) 3 [some (.ref 695), some (.int (nI low)), some (.int (nI (low + l.length))), some (.int (nI d)), some (.int (nI (low + j)))] [] := by
    intro c
    induction c with
    | zero =>
      intro j hj hz
      refine j_iload C dX8_parting_3 rfl 5 rfl ?_
      refine j_iload_n C dX8_parting_5 rfl 6 rfl ?_
      refine n_icmp_ge C 31 9 dX8_parting_6 (by decide) rfl (by omega) (by omega) (fun c_6 => ?_) (fun c_6 => ?_)
      · refine j_iload C dX8_parting_31 rfl 33 rfl ?_
        exact j_iret C hQ ⟨j, rfl, by omega, hz, fun i h1 h2 => absurd h2 (by omega), rfl⟩ (by omega) (by omega) dX8_parting_33
      · exact absurd c_6 (by omega)
    | succ c ih =>
      intro j hj hz
      have hb : gl_bit (fun t => I 698 ((low + j) * 8 + t)) d = gl_bit (gl_way (gl_at l j).1) d := by
        rw [← hseg j (by omega)]
        exact gl_bit_congr hd (fun t ht => (hm.2 (low + j) (by omega)).2.2 t ht)
      refine j_iload C dX8_parting_3 rfl 5 rfl ?_
      refine j_iload_n C dX8_parting_5 rfl 6 rfl ?_
      refine n_icmp_ge C 31 9 dX8_parting_6 (by decide) rfl (by omega) (by omega) (fun c_6 => ?_) (fun c_6 => ?_)
      · exact absurd c_6 (by omega)
      · refine j_aload_n C dX8_parting_9 rfl 10 rfl ?_
        refine gf_X8_18 C hG.m0 hG.mr3 dX8_parting_10 13 rfl ?_
        refine j_iload C dX8_parting_13 rfl 15 rfl ?_
        refine j_bipush (v := nI 8) C dX8_parting_15 (by decide) 17 rfl ?_
        refine n_imul C dX8_parting_17 18 rfl ?_
        refine j_iload_n C dX8_parting_18 rfl 19 rfl ?_
        refine j_ci C (cs_X8_66 C (ct_X0_bit (h - 1) (by omega) hG.m3 (by omega) (by decide) hd) rfl (by omega) (by omega) (by omega) rfl (Nat.le_of_ble_eq_true rfl) dX8_parting_19) 22 rfl ?_
        rintro _ _ ⟨rfl, rfl⟩
        rw [hb]
        refine b_if_ne C 31 25 dX8_parting_22 (by decide) rfl (fun c_22 => ?_) (fun c_22 => ?_)
        · refine j_iload C dX8_parting_31 rfl 33 rfl ?_
          exact j_iret C hQ ⟨j, rfl, by omega, hz, fun i h1 h2 => by
                      rcases Nat.lt_or_ge j i with q | q
                      · exact gl_bit_mono hd (Nat.le_of_lt (hso j i q h2)) (hag j i (by omega) h2) c_22
                      · obtain rfl : i = j := by omega
                        exact c_22, rfl⟩ (by omega) (by omega) dX8_parting_33
        · refine n_iinc C dX8_parting_25 rfl (by rw [hnL]; decide) rfl 28 rfl ?_
          refine j_goto (tgt := 3) C dX8_parting_28 (by decide) ?_
          exact ih (j + 1) (by omega) (fun i h1 => by
            rcases Nat.lt_or_ge i j with q | q
            · exact hz i q
            · obtain rfl : i = j := by omega
              exact c_22)
  refine j_iload_n C dX8_parting_0 rfl 1 rfl ?_
  refine j_istore C dX8_parting_1 (Nat.le_of_ble_eq_true rfl) (by rw [hnL]; decide) rfl 3 rfl ?_
  exact loop l.length 0 (by omega) (fun i h1 => absurd h1 (by omega))
set_option maxHeartbeats 4000000 in
set_option maxRecDepth 100000 in
theorem ct_X8_tree (ff : Nat) : ∀ {l_ : Launch} {δ : gl_Del} {Λ : gl_Lay} {I : Nat → Nat → Int32} {L : Nat → Nat → Int64} {B : Nat → Nat → Bool} {R : Nat → Nat → Option Nat} {m l : gl_Mp} {low high d at_ : Nat} (h : Nat) (hh : ff + 6 ≤ h) (hG : gl_GL Λ R) (hm : gl_gm I m) (hml : m.length ≤ 400) (hseg : ∀ i, i < l.length → gl_at m (low + i) = gl_at l i) (hhi : high = low + l.length) (hhm : high ≤ m.length) (hso : gl_srt l) (hag : ∀ i j, i < l.length → j < l.length → gl_wv (gl_at l i).1 / 2 ^ (256 - d) = gl_wv (gl_at l j).1 / 2 ^ (256 - d)) (hdf : d + ff = 256) (hat : at_ + ff ≤ 600) (hok : gl_tok (fun d q => gl_bit (gl_way (q : Int32 × Nat).1) d) ff d l), gl_Ct l_ δ yX8_tree (ws_ yX8_tree cX8_tree 6 none) (gl_rm h 0 0) 0 0 [.ref 695, .int (nI low), .int (nI high), .int (nI d), .int (nI at_)] (Λ, I, L, B, R) (gl_Qv fun S => ∃ I', S = (Λ, I', L, B, R) ∧ (∀ c, c ≠ 690 → c ≠ 691 → c ≠ 699 → I' c = I c) ∧ (∀ k, k < at_ * 8 → I' 699 k = I 699 k) ∧ ∀ t, t < 8 → I' 699 (at_ * 8 + t) = gl_tr (fun q => gl_leaf (q : Int32 × Nat).1 (nI q.2)) (fun d q => gl_bit (gl_way (q : Int32 × Nat).1) d) ff d l t) := by
  induction ff with
  | zero =>
    intro l_ δ Λ I L B R m l low high d at_ h hh hG hm hml hseg hhi hhm hso hag hdf hat hok
    subst hhi
    refine gl_of (by decide) (Nat.le_of_ble_eq_true rfl) rfl ?_
    intro κ C hQ hlκ hδκ hnL hini
    change gl_Cx κ RX8 _ _ _ at C
    refine j_iload_n C dX8_tree_0 rfl 1 rfl ?_
    refine j_iload_n C dX8_tree_1 rfl 2 rfl ?_
    refine n_icmp_ne C 20 5 dX8_tree_2 (by decide) rfl (by omega) (by omega) (fun c_2 => ?_) (fun c_2 => ?_)
    · refine j_iload_n C dX8_tree_20 rfl 21 rfl ?_
      refine j_iload_n C dX8_tree_21 rfl 22 rfl ?_
      refine j_iconst (v := nI 1) C dX8_tree_22 (by decide) 23 rfl ?_
      refine n_iadd C dX8_tree_23 24 rfl ?_
      refine n_icmp_ne C 58 27 dX8_tree_24 (by decide) rfl (by omega) (by omega) (fun c_24 => ?_) (fun c_24 => ?_)
      · exact absurd (show l.length ≤ 1 from hok) (by omega)
      · obtain ⟨q0, rfl⟩ : ∃ q, l = [q] := List.length_eq_one_iff.mp (by omega)
        have hq0 : gl_at m low = q0 := hseg 0 (by simp)
        refine j_aload_n C dX8_tree_27 rfl 28 rfl ?_
        refine gf_X8_27 C hG.m0 hG.mr0 dX8_tree_28 31 rfl ?_
        refine j_aload_n C dX8_tree_31 rfl 32 rfl ?_
        refine gf_X8_9 C hG.m0 hG.mr1 dX8_tree_32 35 rfl ?_
        refine j_iload_n C dX8_tree_35 rfl 36 rfl ?_
        refine j_iald C hG.m1 (by omega) (by decide) dX8_tree_36 37 rfl ?_
        rw [(hm.2 low (by omega)).1, hq0]
        refine j_aload_n C dX8_tree_37 rfl 38 rfl ?_
        refine gf_X8_15 C hG.m0 hG.mr2 dX8_tree_38 41 rfl ?_
        refine j_iload_n C dX8_tree_41 rfl 42 rfl ?_
        refine j_iald C hG.m2 (by omega) (by decide) dX8_tree_42 43 rfl ?_
        rw [(hm.2 low (by omega)).2.1, hq0]
        refine j_aload_n C dX8_tree_43 rfl 44 rfl ?_
        refine gf_X8_21 C hG.m0 hG.mr4 dX8_tree_44 47 rfl ?_
        refine j_iload C dX8_tree_47 rfl 49 rfl ?_
        refine j_bipush (v := nI 8) C dX8_tree_49 (by decide) 51 rfl ?_
        refine n_imul C dX8_tree_51 52 rfl ?_
        refine j_cv C (cs_X8_74 C (ct_X6_leaf (to := 699) (nt := 5600) (h - 1) (by omega) hG.mx hG.m4 (by decide) (by omega) (by decide)) hG.mx.1 rfl (by omega) (by omega) (by omega) rfl (Nat.le_of_ble_eq_true rfl) dX8_tree_52) 55 rfl ?_
        rintro _ rfl
        refine j_goto (tgt := 129) C dX8_tree_55 (by decide) ?_
        exact j_ret C hQ ⟨_, rfl, fun c h1 h2 h3 => by rw [gl_up_ne h3, gl_m1_o h1 h2], fun k hk => by rw [gl_up_eq, pk_cpy_out (by omega)], fun t ht => by rw [gl_up_eq, pk_cpy_in (by omega) (by omega), gl_tr_1]; congr 1; omega⟩ (by omega) (by omega) dX8_tree_129
    · obtain rfl : l = [] := List.length_eq_zero_iff.mp (by omega)
      refine j_aload_n C dX8_tree_5 rfl 6 rfl ?_
      refine gf_X8_21 C hG.m0 hG.mr4 dX8_tree_6 9 rfl ?_
      refine j_iload C dX8_tree_9 rfl 11 rfl ?_
      refine j_bipush (v := nI 8) C dX8_tree_11 (by decide) 13 rfl ?_
      refine n_imul C dX8_tree_13 14 rfl ?_
      refine j_cv C (cs_X8_70 C (ct_X0_clear (x := 699) (nx := 5600) (h - 1) (by omega) hG.m4 (by omega) (by decide)) rfl (by omega) (by omega) (by omega) rfl (Nat.le_of_ble_eq_true rfl) dX8_tree_14) 17 rfl ?_
      rintro _ rfl
      refine j_goto (tgt := 129) C dX8_tree_17 (by decide) ?_
      exact j_ret C hQ ⟨_, rfl, fun c h1 h2 h3 => gl_up_ne h3, fun k hk => by rw [gl_up_eq, pk_cpy_out (by omega)], fun t ht => by rw [gl_up_eq, pk_cpy_in (by omega) (by omega), gl_tr_0]; rfl⟩ (by omega) (by omega) dX8_tree_129
  | succ ff ih =>
    intro l_ δ Λ I L B R m l low high d at_ h hh hG hm hml hseg hhi hhm hso hag hdf hat hok
    subst hhi
    refine gl_of (by decide) (Nat.le_of_ble_eq_true rfl) rfl ?_
    intro κ C hQ hlκ hδκ hnL hini
    change gl_Cx κ RX8 _ _ _ at C
    refine j_iload_n C dX8_tree_0 rfl 1 rfl ?_
    refine j_iload_n C dX8_tree_1 rfl 2 rfl ?_
    refine n_icmp_ne C 20 5 dX8_tree_2 (by decide) rfl (by omega) (by omega) (fun c_2 => ?_) (fun c_2 => ?_)
    · refine j_iload_n C dX8_tree_20 rfl 21 rfl ?_
      refine j_iload_n C dX8_tree_21 rfl 22 rfl ?_
      refine j_iconst (v := nI 1) C dX8_tree_22 (by decide) 23 rfl ?_
      refine n_iadd C dX8_tree_23 24 rfl ?_
      refine n_icmp_ne C 58 27 dX8_tree_24 (by decide) rfl (by omega) (by omega) (fun c_24 => ?_) (fun c_24 => ?_)
      · have hl2 : 2 ≤ l.length := by omega
        have hok2 := hok.resolve_left (by omega)
        refine j_aload_n C dX8_tree_58 rfl 59 rfl ?_
        refine j_iload_n C dX8_tree_59 rfl 60 rfl ?_
        refine j_iload_n C dX8_tree_60 rfl 61 rfl ?_
        refine j_iload_n C dX8_tree_61 rfl 62 rfl ?_
        refine j_ci C (cs_X8_78 C (ct_X8_parting (l := l) (m := m) (d := d) (h - 1) (by omega) hG hm hml hseg rfl hhm hso hag (by omega)) hG.m0 rfl (by omega) (by omega) (by omega) rfl (Nat.le_of_ble_eq_true rfl) dX8_tree_62) 65 rfl ?_
        rintro _ _ ⟨p, rfl, hp, hz, ho, rfl⟩
        have hff := gl_flt (l := l) (p := p) (b := fun q => gl_bit (gl_way q.1) d) hz ho hp
        rw [hff.1, hff.2] at hok2
        have hlt_ : (l.take p).length = p := by rw [List.length_take]; omega
        have hld_ : (l.drop p).length = l.length - p := List.length_drop
        refine j_istore C dX8_tree_65 (Nat.le_of_ble_eq_true rfl) (by rw [hnL]; decide) rfl 67 rfl ?_
        refine j_aload_n C dX8_tree_67 rfl 68 rfl ?_
        refine j_iload_n C dX8_tree_68 rfl 69 rfl ?_
        refine j_iload C dX8_tree_69 rfl 71 rfl ?_
        refine j_iload_n C dX8_tree_71 rfl 72 rfl ?_
        refine j_iconst (v := nI 1) C dX8_tree_72 (by decide) 73 rfl ?_
        refine n_iadd C dX8_tree_73 74 rfl ?_
        refine j_iload C dX8_tree_74 rfl 76 rfl ?_
        refine j_cv C (cs_X8_82 C (ih (I := I) (m := m) (l := l.take p) (low := low) (high := low + p) (d := d + 1) (at_ := at_) (h - 1) (by omega) hG hm hml (fun i hi => by rw [hlt_] at hi; rw [gl_at_take hi]; exact hseg i (by omega)) (by rw [hlt_]) (by omega) (fun i j hij hj => by rw [hlt_] at hj; rw [gl_at_take (by omega), gl_at_take hj]; exact hso i j hij (by omega)) (fun i j hi hj => by rw [hlt_] at hi hj; rw [gl_at_take hi, gl_at_take hj]; exact gl_bit_next (by omega) (hag i j (by omega) (by omega)) (by rw [hz i hi, hz j hj])) (by omega) (by omega) hok2.1) hG.m0 rfl (by omega) (by omega) (by omega) rfl (Nat.le_of_ble_eq_true rfl) dX8_tree_76) 79 rfl ?_
        rintro _ ⟨I1, rfl, e1, e2, e3⟩
        refine j_aload_n C dX8_tree_79 rfl 80 rfl ?_
        refine j_iload C dX8_tree_80 rfl 82 rfl ?_
        refine j_iload_n C dX8_tree_82 rfl 83 rfl ?_
        refine j_iload_n C dX8_tree_83 rfl 84 rfl ?_
        refine j_iconst (v := nI 1) C dX8_tree_84 (by decide) 85 rfl ?_
        refine n_iadd C dX8_tree_85 86 rfl ?_
        refine j_iload C dX8_tree_86 rfl 88 rfl ?_
        refine j_iconst (v := nI 1) C dX8_tree_88 (by decide) 89 rfl ?_
        refine n_iadd C dX8_tree_89 90 rfl ?_
        refine j_cv C (cs_X8_82 C (ih (I := I1) (m := m) (l := l.drop p) (low := low + p) (high := low + l.length) (d := d + 1) (at_ := at_ + 1) (h - 1) (by omega) hG (gl_gm_eq hm (by rw [e1 _ (by decide) (by decide) (by decide)]) (e1 _ (by decide) (by decide) (by decide)) (e1 _ (by decide) (by decide) (by decide)) (e1 _ (by decide) (by decide) (by decide))) hml (fun i hi => by rw [hld_] at hi; rw [gl_at_drop, Nat.add_assoc]; exact hseg (p + i) (by omega)) (by rw [hld_]; omega) hhm (fun i j hij hj => by rw [hld_] at hj; rw [gl_at_drop, gl_at_drop]; exact hso (p + i) (p + j) (by omega) (by omega)) (fun i j hi hj => by rw [hld_] at hi hj; rw [gl_at_drop, gl_at_drop]; exact gl_bit_next (by omega) (hag (p + i) (p + j) (by omega) (by omega)) (by rw [ho (p + i) (by omega) (by omega), ho (p + j) (by omega) (by omega)])) (by omega) (by omega) hok2.2) hG.m0 rfl (by omega) (by omega) (by omega) rfl (Nat.le_of_ble_eq_true rfl) dX8_tree_90) 93 rfl ?_
        rintro _ ⟨I2, rfl, g1, g2, g3⟩
        refine j_aload_n C dX8_tree_93 rfl 94 rfl ?_
        refine gf_X8_27 C hG.m0 hG.mr0 dX8_tree_94 97 rfl ?_
        refine j_aload_n C dX8_tree_97 rfl 98 rfl ?_
        refine gf_X8_21 C hG.m0 hG.mr4 dX8_tree_98 101 rfl ?_
        refine j_iload C dX8_tree_101 rfl 103 rfl ?_
        refine j_bipush (v := nI 8) C dX8_tree_103 (by decide) 105 rfl ?_
        refine n_imul C dX8_tree_105 106 rfl ?_
        refine j_aload_n C dX8_tree_106 rfl 107 rfl ?_
        refine gf_X8_21 C hG.m0 hG.mr4 dX8_tree_107 110 rfl ?_
        refine j_iload C dX8_tree_110 rfl 112 rfl ?_
        refine j_iconst (v := nI 1) C dX8_tree_112 (by decide) 113 rfl ?_
        refine n_iadd C dX8_tree_113 114 rfl ?_
        refine j_bipush (v := nI 8) C dX8_tree_114 (by decide) 116 rfl ?_
        refine n_imul C dX8_tree_116 117 rfl ?_
        refine j_aload_n C dX8_tree_117 rfl 118 rfl ?_
        refine gf_X8_21 C hG.m0 hG.mr4 dX8_tree_118 121 rfl ?_
        refine j_iload C dX8_tree_121 rfl 123 rfl ?_
        refine j_bipush (v := nI 8) C dX8_tree_123 (by decide) 125 rfl ?_
        refine n_imul C dX8_tree_125 126 rfl ?_
        refine j_cv C (cs_X8_86 C (ct_X6_join (I := I2) (nx := 5600) (ny := 5600) (nt := 5600) (h - 1) (by omega) hG.mx hG.m4 (by decide) (by omega) (by decide) hG.m4 (by decide) (by omega) (by decide) hG.m4 (by decide) (by omega) (by decide)) hG.mx.1 rfl (by omega) (by omega) (by omega) rfl (Nat.le_of_ble_eq_true rfl) dX8_tree_126) 129 rfl ?_
        rintro _ rfl
        exact j_ret C hQ ⟨_, rfl, fun c h1 h2 h3 => by rw [gl_up_ne h3, gl_m1_o h1 h2, g1 c h1 h2 h3, e1 c h1 h2 h3], fun k hk => by rw [gl_up_eq, pk_cpy_out (by omega), g2 k (by omega), e2 k hk], fun t ht => by
                    rw [gl_up_eq, pk_cpy_in (by omega) (by omega), gl_tr_s hl2, show 0 + (at_ * 8 + t - at_ * 8) = t by omega]
                    exact congrFun (gl_join_congr (fun u hu => by rw [g2 _ (by omega), e3 u hu, hff.1]) (fun u hu => by rw [g3 u hu, hff.2])) t⟩ (by omega) (by omega) dX8_tree_129
      · obtain ⟨q0, rfl⟩ : ∃ q, l = [q] := List.length_eq_one_iff.mp (by omega)
        have hq0 : gl_at m low = q0 := hseg 0 (by simp)
        refine j_aload_n C dX8_tree_27 rfl 28 rfl ?_
        refine gf_X8_27 C hG.m0 hG.mr0 dX8_tree_28 31 rfl ?_
        refine j_aload_n C dX8_tree_31 rfl 32 rfl ?_
        refine gf_X8_9 C hG.m0 hG.mr1 dX8_tree_32 35 rfl ?_
        refine j_iload_n C dX8_tree_35 rfl 36 rfl ?_
        refine j_iald C hG.m1 (by omega) (by decide) dX8_tree_36 37 rfl ?_
        rw [(hm.2 low (by omega)).1, hq0]
        refine j_aload_n C dX8_tree_37 rfl 38 rfl ?_
        refine gf_X8_15 C hG.m0 hG.mr2 dX8_tree_38 41 rfl ?_
        refine j_iload_n C dX8_tree_41 rfl 42 rfl ?_
        refine j_iald C hG.m2 (by omega) (by decide) dX8_tree_42 43 rfl ?_
        rw [(hm.2 low (by omega)).2.1, hq0]
        refine j_aload_n C dX8_tree_43 rfl 44 rfl ?_
        refine gf_X8_21 C hG.m0 hG.mr4 dX8_tree_44 47 rfl ?_
        refine j_iload C dX8_tree_47 rfl 49 rfl ?_
        refine j_bipush (v := nI 8) C dX8_tree_49 (by decide) 51 rfl ?_
        refine n_imul C dX8_tree_51 52 rfl ?_
        refine j_cv C (cs_X8_74 C (ct_X6_leaf (to := 699) (nt := 5600) (h - 1) (by omega) hG.mx hG.m4 (by decide) (by omega) (by decide)) hG.mx.1 rfl (by omega) (by omega) (by omega) rfl (Nat.le_of_ble_eq_true rfl) dX8_tree_52) 55 rfl ?_
        rintro _ rfl
        refine j_goto (tgt := 129) C dX8_tree_55 (by decide) ?_
        exact j_ret C hQ ⟨_, rfl, fun c h1 h2 h3 => by rw [gl_up_ne h3, gl_m1_o h1 h2], fun k hk => by rw [gl_up_eq, pk_cpy_out (by omega)], fun t ht => by rw [gl_up_eq, pk_cpy_in (by omega) (by omega), gl_tr_1]; congr 1; omega⟩ (by omega) (by omega) dX8_tree_129
    · obtain rfl : l = [] := List.length_eq_zero_iff.mp (by omega)
      refine j_aload_n C dX8_tree_5 rfl 6 rfl ?_
      refine gf_X8_21 C hG.m0 hG.mr4 dX8_tree_6 9 rfl ?_
      refine j_iload C dX8_tree_9 rfl 11 rfl ?_
      refine j_bipush (v := nI 8) C dX8_tree_11 (by decide) 13 rfl ?_
      refine n_imul C dX8_tree_13 14 rfl ?_
      refine j_cv C (cs_X8_70 C (ct_X0_clear (x := 699) (nx := 5600) (h - 1) (by omega) hG.m4 (by omega) (by decide)) rfl (by omega) (by omega) (by omega) rfl (Nat.le_of_ble_eq_true rfl) dX8_tree_14) 17 rfl ?_
      rintro _ rfl
      refine j_goto (tgt := 129) C dX8_tree_17 (by decide) ?_
      exact j_ret C hQ ⟨_, rfl, fun c h1 h2 h3 => gl_up_ne h3, fun k hk => by rw [gl_up_eq, pk_cpy_out (by omega)], fun t ht => by rw [gl_up_eq, pk_cpy_in (by omega) (by omega), gl_tr_0]; rfl⟩ (by omega) (by omega) dX8_tree_129
theorem gl_wv_div (ky : Int32) : gl_wv ky / 2 ^ (256 - 0) = 0 := Nat.div_eq_of_lt (gl_vl_bound _ 8)
theorem gl_srt_pw {m : gl_Mp} (h : gl_srt m) : m.Pairwise (fun x y => x.1 ≠ y.1) := by
  rw [List.pairwise_iff_getElem]
  intro i j hi hj hij e
  have := h i j hij hj
  unfold gl_at at this
  rw [gl_getD_in hi, gl_getD_in hj, e] at this
  omega
set_option maxHeartbeats 4000000 in
set_option maxRecDepth 100000 in
theorem ct_X8_top {l : Launch} {δ : gl_Del} {Λ : gl_Lay} {I : Nat → Nat → Int32} {L : Nat → Nat → Int64} {B : Nat → Nat → Bool} {R : Nat → Nat → Option Nat} {m : gl_Mp} {to nt at_ : Nat} (h : Nat) (hh : 263 ≤ h) (hG : gl_GL Λ R) (hm : gl_gm I m) (hml : m.length ≤ 400) (hso : gl_srt m) (ht : Λ.2 to = (0, nt)) (hto : to < 690 ∨ 701 ≤ to) (hat : at_ + 8 ≤ nt) (hnt : nt < 2 ^ 31) : gl_Ct l δ yX8_top (ws_ yX8_top cX8_top 3 none) (gl_rm h 0 0) 0 0 [.ref 695, .ref to, .int (nI at_)] (Λ, I, L, B, R) (gl_Qv fun S => ∃ I', S = (Λ, I', L, B, R) ∧ (∀ c, c ≠ 690 → c ≠ 691 → c ≠ 699 → c ≠ to → I' c = I c) ∧ I' to = va_cpy (gl_mtree m) (I to) 0 at_ 8) := by
  refine gl_of (by decide) (Nat.le_of_ble_eq_true rfl) rfl ?_
  intro κ C hQ hlκ hδκ hnL hini
  change gl_Cx κ RX8 _ _ _ at C
  refine j_aload_n C dX8_top_0 rfl 1 rfl ?_
  refine j_iconst (v := nI 0) C dX8_top_1 (by decide) 2 rfl ?_
  refine j_aload_n C dX8_top_2 rfl 3 rfl ?_
  refine gf_X8_31 C hG.m0 dX8_top_3 6 rfl ?_
  rw [hm.1]
  refine j_iconst (v := nI 0) C dX8_top_6 (by decide) 7 rfl ?_
  refine j_iconst (v := nI 0) C dX8_top_7 (by decide) 8 rfl ?_
  refine j_cv C (cs_X8_82 C (ct_X8_tree 256 (m := m) (l := m) (low := 0) (high := m.length) (d := 0) (at_ := 0) (h - 1) (by omega) hG hm hml (fun i _ => by rw [Nat.zero_add]) (by omega) (Nat.le_refl _) hso (fun i j _ _ => by rw [gl_wv_div, gl_wv_div]) rfl (by decide) (gl_tok_keys (gl_srt_pw hso))) hG.m0 rfl (by omega) (by omega) (by omega) rfl (Nat.le_of_ble_eq_true rfl) dX8_top_8) 11 rfl ?_
  rintro _ ⟨I1, rfl, e1, e2, e3⟩
  refine j_aload_n C dX8_top_11 rfl 12 rfl ?_
  refine gf_X8_21 C hG.m0 hG.mr4 dX8_top_12 15 rfl ?_
  refine j_iconst (v := nI 0) C dX8_top_15 (by decide) 16 rfl ?_
  refine j_aload_n C dX8_top_16 rfl 17 rfl ?_
  refine j_iload_n C dX8_top_17 rfl 18 rfl ?_
  refine j_bipush (v := nI 8) C dX8_top_18 (by decide) 20 rfl ?_
  refine j_copyI C q507 hG.m4 ht (by omega) hat (by decide) hnt (by omega) (Nat.le_of_ble_eq_true rfl) dX8_top_20 23 rfl ?_
  exact j_ret C hQ ⟨_, rfl, fun c h1 h2 h3 h4 => by rw [gl_up_ne h4, e1 c h1 h2 h3], by
        rw [gl_up_eq, e1 to (by omega) (by omega) (by omega)]
        funext k
        by_cases hk_ : at_ ≤ k ∧ k < at_ + 8
        · rw [pk_cpy_in hk_.1 hk_.2, pk_cpy_in hk_.1 hk_.2]
          have := e3 (k - at_) (by omega)
          rw [show 0 * 8 + (k - at_) = 0 + (k - at_) by omega] at this
          rw [this, Nat.zero_add]; rfl
        · rw [pk_cpy_out (by omega), pk_cpy_out (by omega)]⟩ (by omega) (by omega) dX8_top_23
