/-! MODULE Model, maps: map (by gen39.py) -/
set_option maxRecDepth 100000
abbrev gl_Mp : Type := List (Int32 × Nat)
def gl_at (m : gl_Mp) (i : Nat) : Int32 × Nat := m.getD i (0, 0)
/-- where a key is in a map (its length: nowhere) -/
def gl_fk (m : gl_Mp) (ky : Int32) : Nat := gl_ff (fun t => (gl_at m t).1) ky m.length 0
def gl_mi (m : gl_Mp) (ky : Int32) (i : Nat) : gl_Mp := if gl_fk m ky < m.length then m.set (gl_fk m ky) (ky, i) else m ++ [(ky, i)]
/-- the map of the first entries that count -/
def gl_map (cn : Nat → Bool) (K : Nat → Int32) : Nat → gl_Mp
  | 0 => []
  | i + 1 => if cn i = true then gl_mi (gl_map cn K i) (K i) i else gl_map cn K i
theorem gl_mi_len {m : gl_Mp} {ky : Int32} {i : Nat} : (gl_mi m ky i).length ≤ m.length + 1 := by
  unfold gl_mi
  by_cases h : gl_fk m ky < m.length
  · rw [if_pos h, List.length_set]; omega
  · rw [if_neg h, List.length_append]; exact Nat.le_refl _
theorem gl_map_len {cn : Nat → Bool} {K : Nat → Int32} : ∀ n, (gl_map cn K n).length ≤ n
  | 0 => Nat.le_refl 0
  | n + 1 => by
    have := gl_map_len (cn := cn) (K := K) n
    unfold gl_map
    by_cases h : cn n = true
    · rw [if_pos h]
      have := gl_mi_len (m := gl_map cn K n) (ky := K n) (i := n)
      omega
    · rw [if_neg h]; omega
theorem gl_ff_congr {f g : Nat → Int32} {ky : Int32} : ∀ (n k : Nat), (∀ t, k ≤ t → t < k + n → f t = g t) → gl_ff f ky n k = gl_ff g ky n k
  | 0, k, _ => rfl
  | n + 1, k, h => by
    unfold gl_ff
    rw [h k (Nat.le_refl k) (by omega), gl_ff_congr n (k + 1) (fun t h1 h2 => h t (by omega) (by omega))]
/-- the reference's rows hold a map -/
def gl_mm (I : Nat → Nat → Int32) (m : gl_Mp) : Prop := I 0 57 = nI m.length ∧ ∀ i, i < m.length → I 47 i = (gl_at m i).1 ∧ I 48 i = nI (gl_at m i).2
theorem gl_mm_fk {I : Nat → Nat → Int32} {m : gl_Mp} (h : gl_mm I m) (ky : Int32) : gl_ff (I 47) ky m.length 0 = gl_fk m ky := gl_ff_congr _ _ (fun t _ ht => (h.2 t (by omega)).1)
theorem gl_fk_key {m : gl_Mp} {ky : Int32} (h : gl_fk m ky < m.length) : (gl_at m (gl_fk m ky)).1 = ky := gl_ff_hit (f := fun t => (gl_at m t).1) m.length 0 (by rw [Nat.zero_add]; exact h)
theorem gl_at_set {m : gl_Mp} {w i : Nat} {q : Int32 × Nat} (hw : w < m.length) : gl_at (m.set w q) i = if i = w then q else gl_at m i := by
  unfold gl_at
  rw [List.getD_eq_getElem?_getD, List.getD_eq_getElem?_getD]
  by_cases h : i = w
  · subst h
    rw [if_pos rfl, List.getElem?_set_self hw]; rfl
  · rw [if_neg h, List.getElem?_set_ne (Ne.symm h)]
theorem gl_at_app {m : gl_Mp} {i : Nat} {q : Int32 × Nat} : gl_at (m ++ [q]) i = if i = m.length then q else gl_at m i := by
  unfold gl_at
  rw [List.getD_eq_getElem?_getD, List.getD_eq_getElem?_getD]
  by_cases h : i = m.length
  · subst h
    rw [if_pos rfl, List.getElem?_append_right (Nat.le_refl _), Nat.sub_self]; rfl
  · rw [if_neg h]
    rcases Nat.lt_or_ge i m.length with h1 | h1
    · rw [List.getElem?_append_left h1]
    · rw [List.getElem?_eq_none (by simp; omega), List.getElem?_eq_none h1]
theorem gl_mm_hit {I : Nat → Nat → Int32} {m : gl_Mp} {ky : Int32} {i : Nat} (h : gl_mm I m) (hw : gl_fk m ky < m.length) : gl_mm (gl_u2 I 48 (gl_fk m ky) (nI i)) (gl_mi m ky i) := by
  unfold gl_mi
  rw [if_pos hw]
  refine ⟨by rw [gl_u2_ne (by decide), List.length_set]; exact h.1, fun j hj => ?_⟩
  rw [List.length_set] at hj
  rw [gl_u2_ne (show (47 : Nat) ≠ 48 by decide), gl_u2_eq, gl_at_set hw]
  by_cases hq : j = gl_fk m ky
  · subst hq
    rw [if_pos rfl, gl_up_eq]
    exact ⟨((h.2 _ hw).1).trans (gl_fk_key hw), rfl⟩
  · rw [if_neg hq, gl_up_ne hq]
    exact h.2 j hj
theorem gl_mm_new {I : Nat → Nat → Int32} {m : gl_Mp} {ky : Int32} {i : Nat} (h : gl_mm I m) (hw : ¬ gl_fk m ky < m.length) : gl_mm (gl_u2 (gl_u2 (gl_u2 I 47 m.length ky) 0 57 (nI (m.length + 1))) 48 m.length (nI i)) (gl_mi m ky i) := by
  unfold gl_mi
  rw [if_neg hw]
  refine ⟨by rw [gl_u2_ne (by decide), gl_u2_eq, gl_up_eq, List.length_append]; rfl, fun j hj => ?_⟩
  rw [List.length_append] at hj
  simp only [List.length_cons, List.length_nil] at hj
  rw [gl_u2_ne (show (47 : Nat) ≠ 48 by decide), gl_u2_ne (show (47 : Nat) ≠ 0 by decide), gl_u2_eq, gl_u2_eq, gl_u2_ne (show (48 : Nat) ≠ 0 by decide), gl_u2_ne (show (48 : Nat) ≠ 47 by decide), gl_at_app]
  by_cases hq : j = m.length
  · subst hq
    rw [if_pos rfl, gl_up_eq, gl_up_eq]
    exact ⟨rfl, rfl⟩
  · rw [if_neg hq, gl_up_ne hq, gl_up_ne hq]
    exact h.2 j (by omega)
/-- no key twice -/
def gl_nd (m : gl_Mp) : Prop := ∀ i j, i < m.length → j < m.length → (gl_at m i).1 = (gl_at m j).1 → i = j
theorem gl_nd_mi {m : gl_Mp} {ky : Int32} {i : Nat} (h : gl_nd m) : gl_nd (gl_mi m ky i) := by
  unfold gl_mi
  by_cases hw : gl_fk m ky < m.length
  · rw [if_pos hw]
    intro a b ha hb e
    rw [List.length_set] at ha hb
    have k : ∀ a, (gl_at (m.set (gl_fk m ky) (ky, i)) a).1 = (gl_at m a).1 := fun a => by
      rw [gl_at_set hw]
      by_cases hq : a = gl_fk m ky
      · rw [if_pos hq, hq]; exact (gl_fk_key hw).symm
      · rw [if_neg hq]
    rw [k, k] at e
    exact h a b ha hb e
  · rw [if_neg hw]
    have hno : ∀ a, a < m.length → (gl_at m a).1 ≠ ky := fun a ha => gl_ff_no (f := fun t => (gl_at m t).1) m.length 0 a (Nat.zero_le _) (Nat.lt_of_lt_of_le ha (Nat.not_lt.mp hw))
    intro a b ha hb e
    rw [List.length_append] at ha hb
    simp only [List.length_cons, List.length_nil] at ha hb
    rw [gl_at_app, gl_at_app] at e
    by_cases h1 : a = m.length <;> by_cases h2 : b = m.length
    · omega
    · rw [if_pos h1, if_neg h2] at e
      exact absurd e.symm (hno b (by omega))
    · rw [if_neg h1, if_pos h2] at e
      exact absurd e (hno a (by omega))
    · rw [if_neg h1, if_neg h2] at e
      exact h a b (by omega) (by omega) e
theorem gl_nd_map {cn : Nat → Bool} {K : Nat → Int32} : ∀ n, gl_nd (gl_map cn K n)
  | 0 => fun a b ha _ _ => absurd ha (Nat.not_lt_zero a)
  | n + 1 => by
    unfold gl_map
    by_cases h : cn n = true
    · rw [if_pos h]; exact gl_nd_mi (gl_nd_map n)
    · rw [if_neg h]; exact gl_nd_map n
/-- map, order and ways stand -/
def gl_MP (I : Nat → Nat → Int32) (m : gl_Mp) : Prop := gl_mm I m ∧ ∀ i, i < m.length → I 50 i = nI i ∧ ∀ t, t < 8 → I 49 (8 * i + t) = gl_way (gl_at m i).1 t
set_option maxHeartbeats 4000000 in
set_option maxRecDepth 100000 in
theorem ct_X9_map {l : Launch} {δ : gl_Del} {I : Nat → Nat → Int32} {L : Nat → Nat → Int64} {B : Nat → Nat → Bool} {lg n wn : Nat} {sn : Nat → Nat} (h : Nat) (hh : 5 ≤ h) (hlg : lg < 6) (hn : n ≤ 400) (hwn : I 1 (4 * lg + 2) + I 1 (4 * lg + 3) = nI wn) (hwb : wn ≤ 100) (hs : ∀ w, w < wn → I 7 (100 * lg + w) = nI (sn w)) (hsb : ∀ w, w < wn → sn w ≤ 400) : gl_Ct l δ yX9_map (ws_ yX9_map cX9_map 6 none) (gl_rm h 0 0) 0 0 [.ref 0, .int (nI lg), .int (nI n)] (gl_mL, I, L, B, gl_mR) (gl_Qv fun S => ∃ I', S = (gl_mL, I', L, B, gl_mR) ∧ gl_fq [39, 40, 47, 48, 49, 50] [57] I I' ∧ gl_MP I' (gl_map (fun i => gl_cn (fun t => I 6 (100 * lg + t)) sn (fun t => B 8 (100 * lg + t)) wn n i (I 2 (400 * lg + i))) (fun i => I 2 (400 * lg + i)) n)) := by
  refine gl_of (by decide) (Nat.le_of_ble_eq_true rfl) rfl ?_
  intro κ C hQ hlκ hδκ hnL hini
  change gl_Cx κ RX9 _ _ _ at C
  have hml : (gl_map (fun i => gl_cn (fun t => I 6 (100 * lg + t)) sn (fun t => B 8 (100 * lg + t)) wn n i (I 2 (400 * lg + i))) (fun i => I 2 (400 * lg + i)) n).length ≤ n := gl_map_len n
  have loop2 : ∀ mp : gl_Mp, mp = gl_map (fun i => gl_cn (fun t => I 6 (100 * lg + t)) sn (fun t => B 8 (100 * lg + t)) wn n i (I 2 (400 * lg + i))) (fun i => I 2 (400 * lg + i)) n → mp.length ≤ 400 → ∀ k j : Nat, j + k = mp.length → ∀ I1, gl_fq [39, 40, 47, 48, 49, 50] [57] I I1 → gl_mm I1 mp → (∀ i, i < j → I1 50 i = nI i ∧ ∀ t, t < 8 → I1 49 (8 * i + t) = gl_way (gl_at mp i).1 t) → ∀ x4 x5 : Option Value, gl_J κ 0 0 (gl_mL, I1, L, B, gl_mR) 94 [some (.ref 0), some (.int (nI lg)), some (.int (nI n)), some (.int (nI j)), x4, x5] [] := by
    intro mp hmp hlen k
    induction k with
    | zero =>
      intro j hj I1 hf hm ho x4 x5
      have hjN : j = mp.length := by omega
      subst hjN
      refine j_iload_n C dX9_map_94 rfl 95 rfl ?_
      refine j_aload_n C dX9_map_95 rfl 96 rfl ?_
      refine gf_X9_223 C rfl dX9_map_96 99 rfl ?_
      rw [hm.1]
      refine n_icmp_ge C 137 102 dX9_map_99 (by decide) rfl (by omega) (by omega) (fun c_99 => ?_) (fun c_99 => ?_)
      · exact j_ret C hQ ⟨_, rfl, hf, by rw [← hmp]; exact ⟨hm, ho⟩⟩ (by omega) (by omega) dX9_map_137
      · exact absurd c_99 (by omega)
    | succ k ih =>
      intro j hj I1 hf hm ho x4 x5
      refine j_iload_n C dX9_map_94 rfl 95 rfl ?_
      refine j_aload_n C dX9_map_95 rfl 96 rfl ?_
      refine gf_X9_223 C rfl dX9_map_96 99 rfl ?_
      rw [hm.1]
      refine n_icmp_ge C 137 102 dX9_map_99 (by decide) rfl (by omega) (by omega) (fun c_99 => ?_) (fun c_99 => ?_)
      · exact absurd c_99 (by omega)
      · refine j_aload_n C dX9_map_102 rfl 103 rfl ?_
        refine gf_X9_160 C rfl rfl dX9_map_103 106 rfl ?_
        refine j_iload_n C dX9_map_106 rfl 107 rfl ?_
        refine j_iload_n C dX9_map_107 rfl 108 rfl ?_
        refine j_iast C rfl (by omega) (by decide) dX9_map_108 109 rfl ?_
        refine j_aload_n C dX9_map_109 rfl 110 rfl ?_
        refine j_aload_n C dX9_map_110 rfl 111 rfl ?_
        refine gf_X9_151 C rfl rfl dX9_map_111 114 rfl ?_
        refine j_iload_n C dX9_map_114 rfl 115 rfl ?_
        refine j_iald C rfl (by omega) (by decide) dX9_map_115 116 rfl ?_
        rw [gl_u2_ne (show (47 : Nat) ≠ 50 by decide), (hm.2 j (by omega)).1]
        refine j_cv C (cs_X9_234 C (ct_X9_wayOf (h - 1) (by omega)) rfl rfl (by omega) (by omega) (by omega) rfl (Nat.le_of_ble_eq_true rfl) dX9_map_116) 119 rfl ?_
        rintro _ ⟨w, rfl⟩
        refine j_aload_n C dX9_map_119 rfl 120 rfl ?_
        refine j_aload_n C dX9_map_120 rfl 121 rfl ?_
        refine gf_X9_157 C rfl rfl dX9_map_121 124 rfl ?_
        refine j_bipush (v := nI 8) C dX9_map_124 (by decide) 126 rfl ?_
        refine j_iload_n C dX9_map_126 rfl 127 rfl ?_
        refine n_imul C dX9_map_127 128 rfl ?_
        refine j_cv C (cs_X9_192 C (ct_X9_toRow (to := 49) (nt := 3200) (h - 1) (by omega) rfl (by decide) (by omega) (by decide)) rfl rfl (by omega) (by omega) (by omega) rfl (Nat.le_of_ble_eq_true rfl) dX9_map_128) 131 rfl ?_
        rintro _ rfl
        rw [gl_wm_40, gl_wm_o (show (49 : Nat) ≠ 39 by decide) (by decide), gl_u2_ne (show (49 : Nat) ≠ 50 by decide)]
        refine n_iinc C dX9_map_131 rfl (by rw [hnL]; decide) rfl 134 rfl ?_
        refine j_goto (tgt := 94) C dX9_map_134 (by decide) ?_
        refine ih (j + 1) (by omega) _ (((hf.u2 (by decide) (by decide)).wm (by decide) (by decide)).up (by decide) (by decide)) ?_ (fun i hi => ?_) _ _
        · refine ⟨?_, fun i hi => ?_⟩
          · rw [gl_up_ne (show (0 : Nat) ≠ 49 by decide), gl_wm_o (by decide) (by decide), gl_u2_ne (show (0 : Nat) ≠ 50 by decide)]; exact hm.1
          · rw [gl_up_ne (show (47 : Nat) ≠ 49 by decide), gl_wm_o (by decide) (by decide), gl_u2_ne (show (47 : Nat) ≠ 50 by decide), gl_up_ne (show (48 : Nat) ≠ 49 by decide), gl_wm_o (by decide) (by decide), gl_u2_ne (show (48 : Nat) ≠ 50 by decide)]; exact hm.2 i hi
        · rw [gl_up_ne (show (50 : Nat) ≠ 49 by decide), gl_wm_o (by decide) (by decide), gl_u2_eq, gl_up_eq]
          by_cases hq : i = j
          · subst hq
            refine ⟨gl_up_eq, fun t ht => ?_⟩
            rw [pk_cpy_in (by omega) (by omega)]
            congr 1; omega
          · rw [gl_up_ne hq]
            refine ⟨(ho i (by omega)).1, fun t ht => ?_⟩
            rw [pk_cpy_out (by omega)]
            exact (ho i (by omega)).2 t ht
  have loop1 : ∀ k j : Nat, j + k = n → ∀ I1, gl_fq [39, 40, 47, 48, 49, 50] [57] I I1 → gl_mm I1 (gl_map (fun i => gl_cn (fun t => I 6 (100 * lg + t)) sn (fun t => B 8 (100 * lg + t)) wn n i (I 2 (400 * lg + i))) (fun i => I 2 (400 * lg + i)) j) → ∀ x4 x5 : Option Value, gl_J κ 0 0 (gl_mL, I1, L, B, gl_mR) 7 [some (.ref 0), some (.int (nI lg)), some (.int (nI n)), some (.int (nI j)), x4, x5] [] := by
    intro k
    induction k with
    | zero =>
      intro j hj I1 hf hm x4 x5
      have hjN : j = n := by omega
      subst hjN
      refine j_iload_n C dX9_map_7 rfl 8 rfl ?_
      refine j_iload_n C dX9_map_8 rfl 9 rfl ?_
      refine n_icmp_ge C 92 12 dX9_map_9 (by decide) rfl (by omega) (by omega) (fun c_9 => ?_) (fun c_9 => ?_)
      · refine j_iconst (v := nI 0) C dX9_map_92 (by decide) 93 rfl ?_
        refine j_istore_n C dX9_map_93 (Nat.le_of_ble_eq_true rfl) (by rw [hnL]; decide) rfl 94 rfl ?_
        exact loop2 _ rfl (by omega) _ 0 (Nat.zero_add _) I1 hf hm (fun i hi => absurd hi (Nat.not_lt_zero i)) _ _
      · exact absurd c_9 (by omega)
    | succ k ih =>
      intro j hj I1 hf hm x4 x5
      have hlj : (gl_map (fun i => gl_cn (fun t => I 6 (100 * lg + t)) sn (fun t => B 8 (100 * lg + t)) wn n i (I 2 (400 * lg + i))) (fun i => I 2 (400 * lg + i)) j).length ≤ j := gl_map_len j
      have g1 : I1 1 = I 1 := hf.1 1 (by decide) (by decide)
      have g2 : I1 2 = I 2 := hf.1 2 (by decide) (by decide)
      have g6 : I1 6 = I 6 := hf.1 6 (by decide) (by decide)
      have g7 : I1 7 = I 7 := hf.1 7 (by decide) (by decide)
      have hit : gl_fk (gl_map (fun i => gl_cn (fun t => I 6 (100 * lg + t)) sn (fun t => B 8 (100 * lg + t)) wn n i (I 2 (400 * lg + i))) (fun i => I 2 (400 * lg + i)) j) (I 2 (400 * lg + j)) < (gl_map (fun i => gl_cn (fun t => I 6 (100 * lg + t)) sn (fun t => B 8 (100 * lg + t)) wn n i (I 2 (400 * lg + i))) (fun i => I 2 (400 * lg + i)) j).length → (fun i => gl_cn (fun t => I 6 (100 * lg + t)) sn (fun t => B 8 (100 * lg + t)) wn n i (I 2 (400 * lg + i))) j = true → gl_J κ 0 0 (gl_mL, I1, L, B, gl_mR) 47 [some (.ref 0), some (.int (nI lg)), some (.int (nI n)), some (.int (nI j)), some (.int (I 2 (400 * lg + j))), some (.int (nI (gl_fk (gl_map (fun i => gl_cn (fun t => I 6 (100 * lg + t)) sn (fun t => B 8 (100 * lg + t)) wn n i (I 2 (400 * lg + i))) (fun i => I 2 (400 * lg + i)) j) (I 2 (400 * lg + j)))))] [] := by
        intro hlt hcn
        refine j_iload C dX9_map_47 rfl 49 rfl ?_
        refine j_iconst (v := -1) C dX9_map_49 (by decide) 50 rfl ?_
        refine j_icmp_ne C 78 53 dX9_map_50 (by decide) rfl (fun c_50 => ?_) (fun c_50 => ?_)
        · refine j_aload_n C dX9_map_78 rfl 79 rfl ?_
          refine gf_X9_154 C rfl rfl dX9_map_79 82 rfl ?_
          refine j_iload C dX9_map_82 rfl 84 rfl ?_
          refine j_iload_n C dX9_map_84 rfl 85 rfl ?_
          refine j_iast C rfl (by omega) (by decide) dX9_map_85 86 rfl ?_
          refine n_iinc C dX9_map_86 rfl (by rw [hnL]; decide) rfl 89 rfl ?_
          refine j_goto (tgt := 7) C dX9_map_89 (by decide) ?_
          refine ih (j + 1) (by omega) _ (hf.u2 (by decide) (by decide)) ?_ _ _
          rw [show gl_map (fun i => gl_cn (fun t => I 6 (100 * lg + t)) sn (fun t => B 8 (100 * lg + t)) wn n i (I 2 (400 * lg + i))) (fun i => I 2 (400 * lg + i)) (j + 1) = gl_mi (gl_map (fun i => gl_cn (fun t => I 6 (100 * lg + t)) sn (fun t => B 8 (100 * lg + t)) wn n i (I 2 (400 * lg + i))) (fun i => I 2 (400 * lg + i)) j) (I 2 (400 * lg + j)) j by rw [gl_map, if_pos hcn]]
          exact gl_mm_hit hm hlt
        · exact absurd c_50 (gl_nm1 (by omega))
      have miss : (gl_map (fun i => gl_cn (fun t => I 6 (100 * lg + t)) sn (fun t => B 8 (100 * lg + t)) wn n i (I 2 (400 * lg + i))) (fun i => I 2 (400 * lg + i)) j).length ≤ gl_fk (gl_map (fun i => gl_cn (fun t => I 6 (100 * lg + t)) sn (fun t => B 8 (100 * lg + t)) wn n i (I 2 (400 * lg + i))) (fun i => I 2 (400 * lg + i)) j) (I 2 (400 * lg + j)) → (fun i => gl_cn (fun t => I 6 (100 * lg + t)) sn (fun t => B 8 (100 * lg + t)) wn n i (I 2 (400 * lg + i))) j = true → gl_J κ 0 0 (gl_mL, I1, L, B, gl_mR) 47 [some (.ref 0), some (.int (nI lg)), some (.int (nI n)), some (.int (nI j)), some (.int (I 2 (400 * lg + j))), some (.int (-1))] [] := by
        intro hge hcn
        refine j_iload C dX9_map_47 rfl 49 rfl ?_
        refine j_iconst (v := -1) C dX9_map_49 (by decide) 50 rfl ?_
        refine j_icmp_ne C 78 53 dX9_map_50 (by decide) rfl (fun c_50 => ?_) (fun c_50 => ?_)
        · exact absurd rfl c_50
        · refine j_aload_n C dX9_map_53 rfl 54 rfl ?_
          refine gf_X9_223 C rfl dX9_map_54 57 rfl ?_
          rw [hm.1]
          refine j_istore C dX9_map_57 (Nat.le_of_ble_eq_true rfl) (by rw [hnL]; decide) rfl 59 rfl ?_
          refine j_aload_n C dX9_map_59 rfl 60 rfl ?_
          refine gf_X9_151 C rfl rfl dX9_map_60 63 rfl ?_
          refine j_iload C dX9_map_63 rfl 65 rfl ?_
          refine j_iload C dX9_map_65 rfl 67 rfl ?_
          refine j_iast C rfl (by omega) (by decide) dX9_map_67 68 rfl ?_
          refine j_aload_n C dX9_map_68 rfl 69 rfl ?_
          refine j_dup C dX9_map_69 rfl 70 rfl ?_
          refine gf_X9_223 C rfl dX9_map_70 73 rfl ?_
          rw [gl_u2_ne (show (0 : Nat) ≠ 47 by decide), hm.1]
          refine j_iconst (v := nI 1) C dX9_map_73 (by decide) 74 rfl ?_
          refine n_iadd C dX9_map_74 75 rfl ?_
          refine pf_X9_223 C rfl dX9_map_75 78 rfl ?_
          refine j_aload_n C dX9_map_78 rfl 79 rfl ?_
          refine gf_X9_154 C rfl rfl dX9_map_79 82 rfl ?_
          refine j_iload C dX9_map_82 rfl 84 rfl ?_
          refine j_iload_n C dX9_map_84 rfl 85 rfl ?_
          refine j_iast C rfl (by omega) (by decide) dX9_map_85 86 rfl ?_
          refine n_iinc C dX9_map_86 rfl (by rw [hnL]; decide) rfl 89 rfl ?_
          refine j_goto (tgt := 7) C dX9_map_89 (by decide) ?_
          refine ih (j + 1) (by omega) _ (((hf.u2 (by decide) (by decide)).sc (by decide)).u2 (by decide) (by decide)) ?_ _ _
          rw [show gl_map (fun i => gl_cn (fun t => I 6 (100 * lg + t)) sn (fun t => B 8 (100 * lg + t)) wn n i (I 2 (400 * lg + i))) (fun i => I 2 (400 * lg + i)) (j + 1) = gl_mi (gl_map (fun i => gl_cn (fun t => I 6 (100 * lg + t)) sn (fun t => B 8 (100 * lg + t)) wn n i (I 2 (400 * lg + i))) (fun i => I 2 (400 * lg + i)) j) (I 2 (400 * lg + j)) j by rw [gl_map, if_pos hcn]]
          exact gl_mm_new hm (Nat.not_lt.mpr hge)
      refine j_iload_n C dX9_map_7 rfl 8 rfl ?_
      refine j_iload_n C dX9_map_8 rfl 9 rfl ?_
      refine n_icmp_ge C 92 12 dX9_map_9 (by decide) rfl (by omega) (by omega) (fun c_9 => ?_) (fun c_9 => ?_)
      · exact absurd c_9 (by omega)
      · refine j_aload_n C dX9_map_12 rfl 13 rfl ?_
        refine j_iload_n C dX9_map_13 rfl 14 rfl ?_
        refine j_iload_n C dX9_map_14 rfl 15 rfl ?_
        refine j_iload_n C dX9_map_15 rfl 16 rfl ?_
        refine j_ci C (cs_X9_226 C (ct_X9_counts (I := I1) (n := n) (i := j) (wn := wn) (sn := sn) (h - 1) (by omega) hlg (by rw [g1]; exact hwn) hwb (fun w hw => by rw [g7]; exact hs w hw) hsb (by omega) (by omega)) rfl rfl (by omega) (by omega) (by omega) rfl (Nat.le_of_ble_eq_true rfl) dX9_map_16) 19 rfl ?_
        rintro _ _ ⟨rfl, rfl⟩
        rw [g6, g2]
        refine b_if_ne C 25 22 dX9_map_19 (by decide) rfl (fun c_19 => ?_) (fun c_19 => ?_)
        · refine j_aload_n C dX9_map_25 rfl 26 rfl ?_
          refine gf_X9_13 C rfl rfl dX9_map_26 29 rfl ?_
          refine j_sipush (v := nI 400) C dX9_map_29 (by decide) 32 rfl ?_
          refine j_iload_n C dX9_map_32 rfl 33 rfl ?_
          refine n_imul C dX9_map_33 34 rfl ?_
          refine j_iload_n C dX9_map_34 rfl 35 rfl ?_
          refine n_iadd C dX9_map_35 36 rfl ?_
          refine j_iald C rfl (by omega) (by decide) dX9_map_36 37 rfl ?_
          rw [g2]
          refine j_istore C dX9_map_37 (Nat.le_of_ble_eq_true rfl) (by rw [hnL]; decide) rfl 39 rfl ?_
          refine j_aload_n C dX9_map_39 rfl 40 rfl ?_
          refine j_iload C dX9_map_40 rfl 42 rfl ?_
          refine j_ci C (cs_X9_230 C (ct_X9_find (n := (gl_map (fun i => gl_cn (fun t => I 6 (100 * lg + t)) sn (fun t => B 8 (100 * lg + t)) wn n i (I 2 (400 * lg + i))) (fun i => I 2 (400 * lg + i)) j).length) (h - 1) (by omega) hm.1 (by omega)) rfl rfl (by omega) (by omega) (by omega) rfl (Nat.le_of_ble_eq_true rfl) dX9_map_42) 45 rfl ?_
          rintro _ _ ⟨rfl, rfl⟩
          rw [gl_fd, gl_mm_fk hm]
          refine j_istore C dX9_map_45 (Nat.le_of_ble_eq_true rfl) (by rw [hnL]; decide) rfl 47 rfl ?_
          rcases Nat.lt_or_ge (gl_fk (gl_map (fun i => gl_cn (fun t => I 6 (100 * lg + t)) sn (fun t => B 8 (100 * lg + t)) wn n i (I 2 (400 * lg + i))) (fun i => I 2 (400 * lg + i)) j) (I 2 (400 * lg + j))) (gl_map (fun i => gl_cn (fun t => I 6 (100 * lg + t)) sn (fun t => B 8 (100 * lg + t)) wn n i (I 2 (400 * lg + i))) (fun i => I 2 (400 * lg + i)) j).length with hlt | hge
          · rw [if_pos hlt]
            exact hit hlt c_19
          · rw [if_neg (Nat.not_lt.mpr hge)]
            exact miss hge c_19
        · refine j_goto (tgt := 86) C dX9_map_22 (by decide) ?_
          refine n_iinc C dX9_map_86 rfl (by rw [hnL]; decide) rfl 89 rfl ?_
          refine j_goto (tgt := 7) C dX9_map_89 (by decide) ?_
          refine ih (j + 1) (by omega) _ hf ?_ _ _
          rw [show gl_map (fun i => gl_cn (fun t => I 6 (100 * lg + t)) sn (fun t => B 8 (100 * lg + t)) wn n i (I 2 (400 * lg + i))) (fun i => I 2 (400 * lg + i)) (j + 1) = (gl_map (fun i => gl_cn (fun t => I 6 (100 * lg + t)) sn (fun t => B 8 (100 * lg + t)) wn n i (I 2 (400 * lg + i))) (fun i => I 2 (400 * lg + i)) j) by rw [gl_map, if_neg (by rw [c_19]; decide)]]
          exact hm
  refine j_aload_n C dX9_map_0 rfl 1 rfl ?_
  refine j_iconst (v := nI 0) C dX9_map_1 (by decide) 2 rfl ?_
  refine pf_X9_223 C rfl dX9_map_2 5 rfl ?_
  refine j_iconst (v := nI 0) C dX9_map_5 (by decide) 6 rfl ?_
  refine j_istore_n C dX9_map_6 (Nat.le_of_ble_eq_true rfl) (by rw [hnL]; decide) rfl 7 rfl ?_
  exact loop1 n 0 (by omega) _ (gl_fq.rf.sc (by decide)) ⟨by rw [gl_u2_eq, gl_up_eq]; rfl, fun i hi => absurd hi (Nat.not_lt_zero i)⟩ _ _
