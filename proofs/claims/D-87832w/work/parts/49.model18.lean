/-! MODULE Model, slots asked: proof, forge, head asked, areLike (by gen49.py) -/
set_option maxRecDepth 100000
/-- the slots' numbers: kind, steps, count, two places -/
def gl_SI (I : Nat → Nat → Int32) (kd sm nn fa sb : Nat → Nat) : Prop := ∀ s, s < 16 → I 9 (8 * s) = nI (kd s) ∧ kd s ≤ 5 ∧ I 9 (8 * s + 1) = nI (sm s) ∧ sm s ≤ 256 ∧ I 9 (8 * s + 2) = nI (nn s) ∧ nn s ≤ 400 ∧ I 9 (8 * s + 3) = nI (fa s) ∧ I 9 (8 * s + 4) = nI (sb s) ∧ sb s ≤ 400 ∧ fa s ≤ nn s ∧ (kd s = 1 → fa s + 1 ≤ nn s) ∧ (kd s = 5 → fa s ≤ sb s ∧ sb s ≤ nn s ∧ sb s ≤ fa s + 40)
/-- entries of a slot -/
def gl_fn (kd fa sb : Nat → Nat) (s : Nat) : Nat := if kd s = 1 then 1 else if kd s = 5 then sb s - fa s else 0
def gl_proof (I : Nat → Nat → Int32) (kd fa sb : Nat → Nat) (x w : Int32) : Int32 := if gl_in x 16 = true then (if gl_in w 5 = true then I 9 (8 * x.toNatClampNeg + w.toNatClampNeg) else if w = nI 5 then (if kd x.toNatClampNeg = 1 ∨ kd x.toNatClampNeg = 3 ∨ kd x.toNatClampNeg = 4 ∨ (kd x.toNatClampNeg = 5 ∧ fa x.toNatClampNeg < sb x.toNatClampNeg) then I 10 (40 * x.toNatClampNeg) else nI 0) else if w = nI 6 then I 9 (8 * x.toNatClampNeg + 5) else if w = nI 7 then I 9 (8 * x.toNatClampNeg + 6) else -1) else -1
def gl_forge (I : Nat → Nat → Int32) (L : Nat → Nat → Int64) (B : Nat → Nat → Bool) (kd fa sb : Nat → Nat) (x k ky : Int32) (v : Int64) : Int32 × gl_Sto := if gl_in x 16 = true ∧ gl_in k (gl_fn kd fa sb x.toNatClampNeg) = true then (b2i true, (gl_mL, gl_u2 I 10 (40 * x.toNatClampNeg + k.toNatClampNeg) ky, gl_u2 L 11 (40 * x.toNatClampNeg + k.toNatClampNeg) v, B, gl_mR)) else (b2i false, (gl_mL, I, L, B, gl_mR))
theorem gl_fn_le {I : Nat → Nat → Int32} {kd sm nn fa sb : Nat → Nat} (h : gl_SI I kd sm nn fa sb) {s : Nat} (hs : s < 16) : gl_fn kd fa sb s ≤ 40 := by
  have := h s hs
  unfold gl_fn
  by_cases h1 : kd s = 1
  · rw [if_pos h1]; omega
  · rw [if_neg h1]
    by_cases h5 : kd s = 5
    · rw [if_pos h5]; have := this.2.2.2.2.2.2.2.2.2.2.2 h5; omega
    · rw [if_neg h5]; omega
set_option maxHeartbeats 4000000 in
set_option maxRecDepth 100000 in
theorem ct_X9_proof {l : Launch} {δ : gl_Del} {I : Nat → Nat → Int32} {L : Nat → Nat → Int64} {B : Nat → Nat → Bool} {kd sm nn fa sb : Nat → Nat} {x w : Int32} (h : Nat) (hh : 2 ≤ h) (P : gl_SI I kd sm nn fa sb) : gl_Ct l δ yX9_proof (ws_ yX9_proof cX9_proof 4 ((some FieldType.int))) (gl_rm h 0 0) 0 0 [.ref 0, .int x, .int w] (gl_mL, I, L, B, gl_mR) (gl_Qi fun r S => r = gl_proof I kd fa sb x w ∧ S = (gl_mL, I, L, B, gl_mR)) := by
  refine gl_of (by decide) (Nat.le_of_ble_eq_true rfl) rfl ?_
  intro κ C hQ hlκ hδκ hnL hini
  change gl_Cx κ RX9 _ _ _ at C
  refine j_aload_n C dX9_proof_0 rfl 1 rfl ?_
  refine j_iload_n C dX9_proof_1 rfl 2 rfl ?_
  refine j_ci C (cs_X9_292 C (ct_X9_isSlot (h - 1) (by omega)) rfl rfl (by omega) (by omega) (by omega) rfl (Nat.le_of_ble_eq_true rfl) dX9_proof_2) 5 rfl ?_
  rintro _ _ ⟨rfl, rfl⟩
  refine b_if_ne C 10 8 dX9_proof_5 (by decide) rfl (fun c_5 => ?_) (fun c_5 => ?_)
  · obtain ⟨s, hs, rfl⟩ := (gl_in_iff (by decide)).mp c_5
    have hcs : (nI s).toNatClampNeg = s := nI_clamp (by omega)
    obtain ⟨k0, kb, k1, k1b, k2, k2b, k3, k4, k4b, k5, k6, k7⟩ := P s hs
    refine j_aload_n C dX9_proof_10 rfl 11 rfl ?_
    refine gf_X9_36 C rfl rfl dX9_proof_11 14 rfl ?_
    refine j_bipush (v := nI 8) C dX9_proof_14 (by decide) 16 rfl ?_
    refine j_iload_n C dX9_proof_16 rfl 17 rfl ?_
    refine n_imul C dX9_proof_17 18 rfl ?_
    refine j_iald C rfl (by omega) (by decide) dX9_proof_18 19 rfl ?_
    rw [k0]
    refine j_istore_n C dX9_proof_19 (Nat.le_of_ble_eq_true rfl) (by rw [hnL]; decide) rfl 20 rfl ?_
    refine j_iload_n C dX9_proof_20 rfl 21 rfl ?_
    rcases gl_sw w 8 (by decide) with ⟨k_, hk_, rfl⟩ | ho_
    · rcases (show k_ = 0 ∨ k_ = 1 ∨ k_ = 2 ∨ k_ = 3 ∨ k_ = 4 ∨ k_ = 5 ∨ k_ = 6 ∨ k_ = 7 by omega) with rfl | rfl | rfl | rfl | rfl | rfl | rfl | rfl
      · refine j_tableIn C 68 dX9_proof_21 (by decide) (by decide) rfl (by decide) ?_
        refine j_iload_n C dX9_proof_68 rfl 69 rfl ?_
        exact j_iret C hQ ⟨by rw [gl_proof, if_pos c_5, hcs, if_pos (by decide)]; exact k0.symm, rfl⟩ (by omega) (by omega) dX9_proof_69
      · refine j_tableIn C 70 dX9_proof_21 (by decide) (by decide) rfl (by decide) ?_
        refine j_aload_n C dX9_proof_70 rfl 71 rfl ?_
        refine gf_X9_36 C rfl rfl dX9_proof_71 74 rfl ?_
        refine j_bipush (v := nI 8) C dX9_proof_74 (by decide) 76 rfl ?_
        refine j_iload_n C dX9_proof_76 rfl 77 rfl ?_
        refine n_imul C dX9_proof_77 78 rfl ?_
        refine j_iload_n C dX9_proof_78 rfl 79 rfl ?_
        refine n_iadd C dX9_proof_79 80 rfl ?_
        refine j_iald C rfl (by omega) (by decide) dX9_proof_80 81 rfl ?_
        exact j_iret C hQ ⟨by rw [gl_proof, if_pos c_5, hcs, if_pos (by decide)]; rfl, rfl⟩ (by omega) (by omega) dX9_proof_81
      · refine j_tableIn C 70 dX9_proof_21 (by decide) (by decide) rfl (by decide) ?_
        refine j_aload_n C dX9_proof_70 rfl 71 rfl ?_
        refine gf_X9_36 C rfl rfl dX9_proof_71 74 rfl ?_
        refine j_bipush (v := nI 8) C dX9_proof_74 (by decide) 76 rfl ?_
        refine j_iload_n C dX9_proof_76 rfl 77 rfl ?_
        refine n_imul C dX9_proof_77 78 rfl ?_
        refine j_iload_n C dX9_proof_78 rfl 79 rfl ?_
        refine n_iadd C dX9_proof_79 80 rfl ?_
        refine j_iald C rfl (by omega) (by decide) dX9_proof_80 81 rfl ?_
        exact j_iret C hQ ⟨by rw [gl_proof, if_pos c_5, hcs, if_pos (by decide)]; rfl, rfl⟩ (by omega) (by omega) dX9_proof_81
      · refine j_tableIn C 70 dX9_proof_21 (by decide) (by decide) rfl (by decide) ?_
        refine j_aload_n C dX9_proof_70 rfl 71 rfl ?_
        refine gf_X9_36 C rfl rfl dX9_proof_71 74 rfl ?_
        refine j_bipush (v := nI 8) C dX9_proof_74 (by decide) 76 rfl ?_
        refine j_iload_n C dX9_proof_76 rfl 77 rfl ?_
        refine n_imul C dX9_proof_77 78 rfl ?_
        refine j_iload_n C dX9_proof_78 rfl 79 rfl ?_
        refine n_iadd C dX9_proof_79 80 rfl ?_
        refine j_iald C rfl (by omega) (by decide) dX9_proof_80 81 rfl ?_
        exact j_iret C hQ ⟨by rw [gl_proof, if_pos c_5, hcs, if_pos (by decide)]; rfl, rfl⟩ (by omega) (by omega) dX9_proof_81
      · refine j_tableIn C 70 dX9_proof_21 (by decide) (by decide) rfl (by decide) ?_
        refine j_aload_n C dX9_proof_70 rfl 71 rfl ?_
        refine gf_X9_36 C rfl rfl dX9_proof_71 74 rfl ?_
        refine j_bipush (v := nI 8) C dX9_proof_74 (by decide) 76 rfl ?_
        refine j_iload_n C dX9_proof_76 rfl 77 rfl ?_
        refine n_imul C dX9_proof_77 78 rfl ?_
        refine j_iload_n C dX9_proof_78 rfl 79 rfl ?_
        refine n_iadd C dX9_proof_79 80 rfl ?_
        refine j_iald C rfl (by omega) (by decide) dX9_proof_80 81 rfl ?_
        exact j_iret C hQ ⟨by rw [gl_proof, if_pos c_5, hcs, if_pos (by decide)]; rfl, rfl⟩ (by omega) (by omega) dX9_proof_81
      · refine j_tableIn C 82 dX9_proof_21 (by decide) (by decide) rfl (by decide) ?_
        refine j_iload_n C dX9_proof_82 rfl 83 rfl ?_
        refine j_iconst (v := nI 1) C dX9_proof_83 (by decide) 84 rfl ?_
        refine n_icmp_eq C 127 87 dX9_proof_84 (by decide) rfl (by omega) (by omega) (fun c_84 => ?_) (fun c_84 => ?_)
        · refine j_aload_n C dX9_proof_127 rfl 128 rfl ?_
          refine gf_X9_39 C rfl rfl dX9_proof_128 131 rfl ?_
          refine j_bipush (v := nI 40) C dX9_proof_131 (by decide) 133 rfl ?_
          refine j_iload_n C dX9_proof_133 rfl 134 rfl ?_
          refine n_imul C dX9_proof_134 135 rfl ?_
          refine j_iald C rfl (by omega) (by decide) dX9_proof_135 136 rfl ?_
          refine j_goto (tgt := 140) C dX9_proof_136 (by decide) ?_
          exact j_iret C hQ ⟨by rw [gl_proof, if_pos c_5, hcs, if_neg (show ¬ gl_in (nI 5) 5 = true by decide), if_pos rfl, if_pos (Or.inl c_84)], rfl⟩ (by omega) (by omega) dX9_proof_140
        · refine j_iload_n C dX9_proof_87 rfl 88 rfl ?_
          refine j_iconst (v := nI 3) C dX9_proof_88 (by decide) 89 rfl ?_
          refine n_icmp_eq C 127 92 dX9_proof_89 (by decide) rfl (by omega) (by omega) (fun c_89 => ?_) (fun c_89 => ?_)
          · refine j_aload_n C dX9_proof_127 rfl 128 rfl ?_
            refine gf_X9_39 C rfl rfl dX9_proof_128 131 rfl ?_
            refine j_bipush (v := nI 40) C dX9_proof_131 (by decide) 133 rfl ?_
            refine j_iload_n C dX9_proof_133 rfl 134 rfl ?_
            refine n_imul C dX9_proof_134 135 rfl ?_
            refine j_iald C rfl (by omega) (by decide) dX9_proof_135 136 rfl ?_
            refine j_goto (tgt := 140) C dX9_proof_136 (by decide) ?_
            exact j_iret C hQ ⟨by rw [gl_proof, if_pos c_5, hcs, if_neg (show ¬ gl_in (nI 5) 5 = true by decide), if_pos rfl, if_pos (Or.inr (Or.inl c_89))], rfl⟩ (by omega) (by omega) dX9_proof_140
          · refine j_iload_n C dX9_proof_92 rfl 93 rfl ?_
            refine j_iconst (v := nI 4) C dX9_proof_93 (by decide) 94 rfl ?_
            refine n_icmp_eq C 127 97 dX9_proof_94 (by decide) rfl (by omega) (by omega) (fun c_94 => ?_) (fun c_94 => ?_)
            · refine j_aload_n C dX9_proof_127 rfl 128 rfl ?_
              refine gf_X9_39 C rfl rfl dX9_proof_128 131 rfl ?_
              refine j_bipush (v := nI 40) C dX9_proof_131 (by decide) 133 rfl ?_
              refine j_iload_n C dX9_proof_133 rfl 134 rfl ?_
              refine n_imul C dX9_proof_134 135 rfl ?_
              refine j_iald C rfl (by omega) (by decide) dX9_proof_135 136 rfl ?_
              refine j_goto (tgt := 140) C dX9_proof_136 (by decide) ?_
              exact j_iret C hQ ⟨by rw [gl_proof, if_pos c_5, hcs, if_neg (show ¬ gl_in (nI 5) 5 = true by decide), if_pos rfl, if_pos (Or.inr (Or.inr (Or.inl c_94)))], rfl⟩ (by omega) (by omega) dX9_proof_140
            · refine j_iload_n C dX9_proof_97 rfl 98 rfl ?_
              refine j_iconst (v := nI 5) C dX9_proof_98 (by decide) 99 rfl ?_
              refine n_icmp_ne C 139 102 dX9_proof_99 (by decide) rfl (by omega) (by omega) (fun c_99 => ?_) (fun c_99 => ?_)
              · refine j_iconst (v := nI 0) C dX9_proof_139 (by decide) 140 rfl ?_
                exact j_iret C hQ ⟨by rw [gl_proof, if_pos c_5, hcs, if_neg (show ¬ gl_in (nI 5) 5 = true by decide), if_pos rfl, if_neg (by omega)], rfl⟩ (by omega) (by omega) dX9_proof_140
              · refine j_aload_n C dX9_proof_102 rfl 103 rfl ?_
                refine gf_X9_36 C rfl rfl dX9_proof_103 106 rfl ?_
                refine j_bipush (v := nI 8) C dX9_proof_106 (by decide) 108 rfl ?_
                refine j_iload_n C dX9_proof_108 rfl 109 rfl ?_
                refine n_imul C dX9_proof_109 110 rfl ?_
                refine j_iconst (v := nI 4) C dX9_proof_110 (by decide) 111 rfl ?_
                refine n_iadd C dX9_proof_111 112 rfl ?_
                refine j_iald C rfl (by omega) (by decide) dX9_proof_112 113 rfl ?_
                rw [k4]
                refine j_aload_n C dX9_proof_113 rfl 114 rfl ?_
                refine gf_X9_36 C rfl rfl dX9_proof_114 117 rfl ?_
                refine j_bipush (v := nI 8) C dX9_proof_117 (by decide) 119 rfl ?_
                refine j_iload_n C dX9_proof_119 rfl 120 rfl ?_
                refine n_imul C dX9_proof_120 121 rfl ?_
                refine j_iconst (v := nI 3) C dX9_proof_121 (by decide) 122 rfl ?_
                refine n_iadd C dX9_proof_122 123 rfl ?_
                refine j_iald C rfl (by omega) (by decide) dX9_proof_123 124 rfl ?_
                rw [k3]
                refine n_icmp_le C 139 127 dX9_proof_124 (by decide) rfl (by omega) (by omega) (fun c_124 => ?_) (fun c_124 => ?_)
                · refine j_iconst (v := nI 0) C dX9_proof_139 (by decide) 140 rfl ?_
                  exact j_iret C hQ ⟨by rw [gl_proof, if_pos c_5, hcs, if_neg (show ¬ gl_in (nI 5) 5 = true by decide), if_pos rfl, if_neg (by omega)], rfl⟩ (by omega) (by omega) dX9_proof_140
                · refine j_aload_n C dX9_proof_127 rfl 128 rfl ?_
                  refine gf_X9_39 C rfl rfl dX9_proof_128 131 rfl ?_
                  refine j_bipush (v := nI 40) C dX9_proof_131 (by decide) 133 rfl ?_
                  refine j_iload_n C dX9_proof_133 rfl 134 rfl ?_
                  refine n_imul C dX9_proof_134 135 rfl ?_
                  refine j_iald C rfl (by omega) (by decide) dX9_proof_135 136 rfl ?_
                  refine j_goto (tgt := 140) C dX9_proof_136 (by decide) ?_
                  exact j_iret C hQ ⟨by rw [gl_proof, if_pos c_5, hcs, if_neg (show ¬ gl_in (nI 5) 5 = true by decide), if_pos rfl, if_pos (Or.inr (Or.inr (Or.inr ⟨c_99, by omega⟩)))], rfl⟩ (by omega) (by omega) dX9_proof_140
      · refine j_tableIn C 141 dX9_proof_21 (by decide) (by decide) rfl (by decide) ?_
        refine j_aload_n C dX9_proof_141 rfl 142 rfl ?_
        refine gf_X9_36 C rfl rfl dX9_proof_142 145 rfl ?_
        refine j_bipush (v := nI 8) C dX9_proof_145 (by decide) 147 rfl ?_
        refine j_iload_n C dX9_proof_147 rfl 148 rfl ?_
        refine n_imul C dX9_proof_148 149 rfl ?_
        refine j_iconst (v := nI 5) C dX9_proof_149 (by decide) 150 rfl ?_
        refine n_iadd C dX9_proof_150 151 rfl ?_
        refine j_iald C rfl (by omega) (by decide) dX9_proof_151 152 rfl ?_
        exact j_iret C hQ ⟨by rw [gl_proof, if_pos c_5, hcs, if_neg (show ¬ gl_in (nI 6) 5 = true by decide), if_neg (by decide), if_pos rfl], rfl⟩ (by omega) (by omega) dX9_proof_152
      · refine j_tableIn C 153 dX9_proof_21 (by decide) (by decide) rfl (by decide) ?_
        refine j_aload_n C dX9_proof_153 rfl 154 rfl ?_
        refine gf_X9_36 C rfl rfl dX9_proof_154 157 rfl ?_
        refine j_bipush (v := nI 8) C dX9_proof_157 (by decide) 159 rfl ?_
        refine j_iload_n C dX9_proof_159 rfl 160 rfl ?_
        refine n_imul C dX9_proof_160 161 rfl ?_
        refine j_bipush (v := nI 6) C dX9_proof_161 (by decide) 163 rfl ?_
        refine n_iadd C dX9_proof_163 164 rfl ?_
        refine j_iald C rfl (by omega) (by decide) dX9_proof_164 165 rfl ?_
        exact j_iret C hQ ⟨by rw [gl_proof, if_pos c_5, hcs, if_neg (show ¬ gl_in (nI 7) 5 = true by decide), if_neg (by decide), if_neg (by decide), if_pos rfl], rfl⟩ (by omega) (by omega) dX9_proof_165
    · refine j_tableOut C 166 dX9_proof_21 (by omega) (by decide) ?_
      refine j_iconst (v := -1) C dX9_proof_166 (by decide) 167 rfl ?_
      exact j_iret C hQ ⟨by rw [gl_proof, if_pos c_5, hcs, if_neg (fun q => by obtain ⟨j_, hj_, rfl⟩ := (gl_in_iff (by decide)).mp q; exact gl_out (n := 8) (by decide) (show j_ < 8 by omega) ho_ rfl), if_neg (gl_out (n := 8) (by decide) (by decide) ho_), if_neg (gl_out (n := 8) (by decide) (by decide) ho_), if_neg (gl_out (n := 8) (by decide) (by decide) ho_)], rfl⟩ (by omega) (by omega) dX9_proof_167
  · refine j_iconst (v := -1) C dX9_proof_8 (by decide) 9 rfl ?_
    exact j_iret C hQ ⟨by rw [gl_proof, if_neg (by rw [c_5]; decide)], rfl⟩ (by omega) (by omega) dX9_proof_9
set_option maxHeartbeats 4000000 in
set_option maxRecDepth 100000 in
theorem ct_X9_forge {l : Launch} {δ : gl_Del} {I : Nat → Nat → Int32} {L : Nat → Nat → Int64} {B : Nat → Nat → Bool} {kd sm nn fa sb : Nat → Nat} {x k ky : Int32} {v : Int64} (h : Nat) (hh : 2 ≤ h) (P : gl_SI I kd sm nn fa sb) : gl_Ct l δ yX9_forge (ws_ yX9_forge cX9_forge 8 ((some FieldType.boolean))) (gl_rm h 0 0) 0 0 [.ref 0, .int x, .int k, .int ky, .long v] (gl_mL, I, L, B, gl_mR) (gl_Qi fun r S => (r, S) = gl_forge I L B kd fa sb x k ky v) := by
  refine gl_of (by decide) (Nat.le_of_ble_eq_true rfl) rfl ?_
  intro κ C hQ hlκ hδκ hnL hini
  change gl_Cx κ RX9 _ _ _ at C
  refine j_aload_n C dX9_forge_0 rfl 1 rfl ?_
  refine j_iload_n C dX9_forge_1 rfl 2 rfl ?_
  refine j_ci C (cs_X9_292 C (ct_X9_isSlot (h - 1) (by omega)) rfl rfl (by omega) (by omega) (by omega) rfl (Nat.le_of_ble_eq_true rfl) dX9_forge_2) 5 rfl ?_
  rintro _ _ ⟨rfl, rfl⟩
  refine b_if_ne C 10 8 dX9_forge_5 (by decide) rfl (fun c_5 => ?_) (fun c_5 => ?_)
  · obtain ⟨s, hs, rfl⟩ := (gl_in_iff (by decide)).mp c_5
    have hcs : (nI s).toNatClampNeg = s := nI_clamp (by omega)
    obtain ⟨k0, kb, k1, k1b, k2, k2b, k3, k4, k4b, k5, k6, k7⟩ := P s hs
    refine j_aload_n C dX9_forge_10 rfl 11 rfl ?_
    refine gf_X9_36 C rfl rfl dX9_forge_11 14 rfl ?_
    refine j_bipush (v := nI 8) C dX9_forge_14 (by decide) 16 rfl ?_
    refine j_iload_n C dX9_forge_16 rfl 17 rfl ?_
    refine n_imul C dX9_forge_17 18 rfl ?_
    refine j_iald C rfl (by omega) (by decide) dX9_forge_18 19 rfl ?_
    rw [k0]
    refine j_istore C dX9_forge_19 (Nat.le_of_ble_eq_true rfl) (by rw [hnL]; decide) rfl 21 rfl ?_
    refine j_iload C dX9_forge_21 rfl 23 rfl ?_
    refine j_iconst (v := nI 1) C dX9_forge_23 (by decide) 24 rfl ?_
    refine n_icmp_ne C 31 27 dX9_forge_24 (by decide) rfl (by omega) (by omega) (fun c_24 => ?_) (fun c_24 => ?_)
    · refine j_iload C dX9_forge_31 rfl 33 rfl ?_
      refine j_iconst (v := nI 5) C dX9_forge_33 (by decide) 34 rfl ?_
      refine n_icmp_ne C 63 37 dX9_forge_34 (by decide) rfl (by omega) (by omega) (fun c_34 => ?_) (fun c_34 => ?_)
      · refine j_iconst (v := nI 0) C dX9_forge_63 (by decide) 64 rfl ?_
        have hfn : gl_fn kd fa sb s = 0 := by rw [gl_fn, if_neg c_24, if_neg c_34]
        have hf40 := gl_fn_le P hs
        refine j_istore C dX9_forge_64 (Nat.le_of_ble_eq_true rfl) (by rw [hnL]; decide) rfl 66 rfl ?_
        refine j_iload_n C dX9_forge_66 rfl 67 rfl ?_
        refine j_if_lt C 76 70 dX9_forge_67 (by decide) rfl (fun c_67 => ?_) (fun c_67 => ?_)
        · refine j_iconst (v := b2i false) C dX9_forge_76 (by decide) 77 rfl ?_
          exact j_zret C hQ (by rw [gl_forge, hcs, if_neg (fun q => by rw [gl_in_f1 c_67] at q; cases q.2)]) (by omega) (by omega) dX9_forge_77
        · obtain ⟨k_, hk_, rfl⟩ := nI_of c_67
          have hck : (nI k_).toNatClampNeg = k_ := nI_clamp hk_
          refine j_iload_n C dX9_forge_70 rfl 71 rfl ?_
          refine j_iload C dX9_forge_71 rfl 73 rfl ?_
          refine n_icmp_lt C 78 76 dX9_forge_73 (by decide) rfl hk_ (by omega) (fun c_73 => ?_) (fun c_73 => ?_)
          · exact absurd c_73 (by omega)
          · refine j_iconst (v := b2i false) C dX9_forge_76 (by decide) 77 rfl ?_
            exact j_zret C hQ (by rw [gl_forge, hcs, if_neg (fun q => by rw [gl_in_nI hk_ (by omega), decide_eq_true_iff] at q; omega)]) (by omega) (by omega) dX9_forge_77
      · have k7 := k7 c_34
        refine j_aload_n C dX9_forge_37 rfl 38 rfl ?_
        refine gf_X9_36 C rfl rfl dX9_forge_38 41 rfl ?_
        refine j_bipush (v := nI 8) C dX9_forge_41 (by decide) 43 rfl ?_
        refine j_iload_n C dX9_forge_43 rfl 44 rfl ?_
        refine n_imul C dX9_forge_44 45 rfl ?_
        refine j_iconst (v := nI 4) C dX9_forge_45 (by decide) 46 rfl ?_
        refine n_iadd C dX9_forge_46 47 rfl ?_
        refine j_iald C rfl (by omega) (by decide) dX9_forge_47 48 rfl ?_
        rw [k4]
        refine j_aload_n C dX9_forge_48 rfl 49 rfl ?_
        refine gf_X9_36 C rfl rfl dX9_forge_49 52 rfl ?_
        refine j_bipush (v := nI 8) C dX9_forge_52 (by decide) 54 rfl ?_
        refine j_iload_n C dX9_forge_54 rfl 55 rfl ?_
        refine n_imul C dX9_forge_55 56 rfl ?_
        refine j_iconst (v := nI 3) C dX9_forge_56 (by decide) 57 rfl ?_
        refine n_iadd C dX9_forge_57 58 rfl ?_
        refine j_iald C rfl (by omega) (by decide) dX9_forge_58 59 rfl ?_
        rw [k3]
        refine n_isub C dX9_forge_59 (by omega) 60 rfl ?_
        refine j_goto (tgt := 64) C dX9_forge_60 (by decide) ?_
        have hfn : gl_fn kd fa sb s = sb s - fa s := by rw [gl_fn, if_neg c_24, if_pos c_34]
        have hf40 := gl_fn_le P hs
        refine j_istore C dX9_forge_64 (Nat.le_of_ble_eq_true rfl) (by rw [hnL]; decide) rfl 66 rfl ?_
        refine j_iload_n C dX9_forge_66 rfl 67 rfl ?_
        refine j_if_lt C 76 70 dX9_forge_67 (by decide) rfl (fun c_67 => ?_) (fun c_67 => ?_)
        · refine j_iconst (v := b2i false) C dX9_forge_76 (by decide) 77 rfl ?_
          exact j_zret C hQ (by rw [gl_forge, hcs, if_neg (fun q => by rw [gl_in_f1 c_67] at q; cases q.2)]) (by omega) (by omega) dX9_forge_77
        · obtain ⟨k_, hk_, rfl⟩ := nI_of c_67
          have hck : (nI k_).toNatClampNeg = k_ := nI_clamp hk_
          refine j_iload_n C dX9_forge_70 rfl 71 rfl ?_
          refine j_iload C dX9_forge_71 rfl 73 rfl ?_
          refine n_icmp_lt C 78 76 dX9_forge_73 (by decide) rfl hk_ (by omega) (fun c_73 => ?_) (fun c_73 => ?_)
          · refine j_aload_n C dX9_forge_78 rfl 79 rfl ?_
            refine gf_X9_39 C rfl rfl dX9_forge_79 82 rfl ?_
            refine j_bipush (v := nI 40) C dX9_forge_82 (by decide) 84 rfl ?_
            refine j_iload_n C dX9_forge_84 rfl 85 rfl ?_
            refine n_imul C dX9_forge_85 86 rfl ?_
            refine j_iload_n C dX9_forge_86 rfl 87 rfl ?_
            refine n_iadd C dX9_forge_87 88 rfl ?_
            refine j_iload_n C dX9_forge_88 rfl 89 rfl ?_
            refine j_iast C rfl (by omega) (by decide) dX9_forge_89 90 rfl ?_
            refine j_aload_n C dX9_forge_90 rfl 91 rfl ?_
            refine gf_X9_42 C rfl rfl dX9_forge_91 94 rfl ?_
            refine j_bipush (v := nI 40) C dX9_forge_94 (by decide) 96 rfl ?_
            refine j_iload_n C dX9_forge_96 rfl 97 rfl ?_
            refine n_imul C dX9_forge_97 98 rfl ?_
            refine j_iload_n C dX9_forge_98 rfl 99 rfl ?_
            refine n_iadd C dX9_forge_99 100 rfl ?_
            refine j_lload C dX9_forge_100 rfl 102 rfl ?_
            refine j_last C rfl (by omega) (by decide) dX9_forge_102 103 rfl ?_
            refine j_iconst (v := b2i true) C dX9_forge_103 (by decide) 104 rfl ?_
            exact j_zret C hQ (by rw [gl_forge, hcs, hck, if_pos ⟨c_5, by rw [gl_in_nI hk_ (by omega), decide_eq_true_iff]; omega⟩]) (by omega) (by omega) dX9_forge_104
          · refine j_iconst (v := b2i false) C dX9_forge_76 (by decide) 77 rfl ?_
            exact j_zret C hQ (by rw [gl_forge, hcs, if_neg (fun q => by rw [gl_in_nI hk_ (by omega), decide_eq_true_iff] at q; omega)]) (by omega) (by omega) dX9_forge_77
    · refine j_iconst (v := nI 1) C dX9_forge_27 (by decide) 28 rfl ?_
      refine j_goto (tgt := 64) C dX9_forge_28 (by decide) ?_
      have hfn : gl_fn kd fa sb s = 1 := if_pos c_24
      have hf40 := gl_fn_le P hs
      refine j_istore C dX9_forge_64 (Nat.le_of_ble_eq_true rfl) (by rw [hnL]; decide) rfl 66 rfl ?_
      refine j_iload_n C dX9_forge_66 rfl 67 rfl ?_
      refine j_if_lt C 76 70 dX9_forge_67 (by decide) rfl (fun c_67 => ?_) (fun c_67 => ?_)
      · refine j_iconst (v := b2i false) C dX9_forge_76 (by decide) 77 rfl ?_
        exact j_zret C hQ (by rw [gl_forge, hcs, if_neg (fun q => by rw [gl_in_f1 c_67] at q; cases q.2)]) (by omega) (by omega) dX9_forge_77
      · obtain ⟨k_, hk_, rfl⟩ := nI_of c_67
        have hck : (nI k_).toNatClampNeg = k_ := nI_clamp hk_
        refine j_iload_n C dX9_forge_70 rfl 71 rfl ?_
        refine j_iload C dX9_forge_71 rfl 73 rfl ?_
        refine n_icmp_lt C 78 76 dX9_forge_73 (by decide) rfl hk_ (by omega) (fun c_73 => ?_) (fun c_73 => ?_)
        · refine j_aload_n C dX9_forge_78 rfl 79 rfl ?_
          refine gf_X9_39 C rfl rfl dX9_forge_79 82 rfl ?_
          refine j_bipush (v := nI 40) C dX9_forge_82 (by decide) 84 rfl ?_
          refine j_iload_n C dX9_forge_84 rfl 85 rfl ?_
          refine n_imul C dX9_forge_85 86 rfl ?_
          refine j_iload_n C dX9_forge_86 rfl 87 rfl ?_
          refine n_iadd C dX9_forge_87 88 rfl ?_
          refine j_iload_n C dX9_forge_88 rfl 89 rfl ?_
          refine j_iast C rfl (by omega) (by decide) dX9_forge_89 90 rfl ?_
          refine j_aload_n C dX9_forge_90 rfl 91 rfl ?_
          refine gf_X9_42 C rfl rfl dX9_forge_91 94 rfl ?_
          refine j_bipush (v := nI 40) C dX9_forge_94 (by decide) 96 rfl ?_
          refine j_iload_n C dX9_forge_96 rfl 97 rfl ?_
          refine n_imul C dX9_forge_97 98 rfl ?_
          refine j_iload_n C dX9_forge_98 rfl 99 rfl ?_
          refine n_iadd C dX9_forge_99 100 rfl ?_
          refine j_lload C dX9_forge_100 rfl 102 rfl ?_
          refine j_last C rfl (by omega) (by decide) dX9_forge_102 103 rfl ?_
          refine j_iconst (v := b2i true) C dX9_forge_103 (by decide) 104 rfl ?_
          exact j_zret C hQ (by rw [gl_forge, hcs, hck, if_pos ⟨c_5, by rw [gl_in_nI hk_ (by omega), decide_eq_true_iff]; omega⟩]) (by omega) (by omega) dX9_forge_104
        · refine j_iconst (v := b2i false) C dX9_forge_76 (by decide) 77 rfl ?_
          exact j_zret C hQ (by rw [gl_forge, hcs, if_neg (fun q => by rw [gl_in_nI hk_ (by omega), decide_eq_true_iff] at q; omega)]) (by omega) (by omega) dX9_forge_77
  · refine j_iconst (v := b2i false) C dX9_forge_8 (by decide) 9 rfl ?_
    exact j_zret C hQ (by rw [gl_forge, if_neg (fun q => by rw [c_5] at q; cases q.1)]) (by omega) (by omega) dX9_forge_9
/-- a head's words: top, tree, mark -/
def gl_hw (kp n : Int32) (t u : Nat → Int32) (w : Nat) : Nat → Int32 := if w = 0 then t else if w = 1 then u else gl_mark kp n t u
def gl_head (I : Nat → Nat → Int32) (L : Nat → Nat → Int64) (B : Nat → Nat → Bool) (lm : Nat) (hd ld : Nat → Nat) (sn : Nat → Nat → Nat) (x n w j : Int32) : Int32 := if gl_ic I lm x n = true ∧ gl_in w 3 = true ∧ gl_in j 8 = true then gl_hw (I 1 (4 * x.toNatClampNeg)) n (gl_ltop (fun i => I 2 (400 * x.toNatClampNeg + i)) (fun i => L 3 (400 * x.toNatClampNeg + i)) n.toNatClampNeg) (gl_mtree (gl_lmap I B hd ld sn x.toNatClampNeg n.toNatClampNeg)) w.toNatClampNeg j.toNatClampNeg else nI 0
theorem gl_hdP_at {f : Nat → Int32} {n lg kp x3 : Int32} {t u : Nat → Int32} (h : gl_hdP f n lg kp x3 t u) {w j : Nat} (hw : w < 3) (hj : j < 8) : f (4 + 8 * w + j) = gl_hw kp n t u w j := by
  obtain ⟨-, -, -, -, h1, h2, h3⟩ := h
  rcases (show w = 0 ∨ w = 1 ∨ w = 2 by omega) with rfl | rfl | rfl
  · exact h1 j hj
  · exact h2 j hj
  · exact h3 j hj
set_option maxHeartbeats 4000000 in
set_option maxRecDepth 100000 in
theorem ct_X9_head {l : Launch} {δ : gl_Del} {I : Nat → Nat → Int32} {L : Nat → Nat → Int64} {B : Nat → Nat → Bool} {lm : Nat} {mn hd ld : Nat → Nat} {sn : Nat → Nat → Nat} {x n w j : Int32} (h : Nat) (hh : 271 ≤ h) (H : gl_LI I lm mn hd ld sn) : gl_Ct l δ yX9_head (ws_ yX9_head cX9_head 5 ((some FieldType.int))) (gl_rm h 0 0) 0 0 [.ref 0, .int x, .int n, .int w, .int j] (gl_mL, I, L, B, gl_mR) (gl_Qi fun r S => r = gl_head I L B lm hd ld sn x n w j ∧ ∃ I', S = (gl_mL, I', L, B, gl_mR) ∧ gl_fq [39, 40, 41, 42, 43, 44, 45, 46, 47, 48, 49, 50, 51, 52, 53] [49, 57] I I') := by
  refine gl_of (by decide) (Nat.le_of_ble_eq_true rfl) rfl ?_
  intro κ C hQ hlκ hδκ hnL hini
  change gl_Cx κ RX9 _ _ _ at C
  have hlm6 : lm ≤ 6 := H.2.1
  refine j_aload_n C dX9_head_0 rfl 1 rfl ?_
  refine j_iload_n C dX9_head_1 rfl 2 rfl ?_
  refine j_iload_n C dX9_head_2 rfl 3 rfl ?_
  refine j_ci C (cs_X9_277 C (ct_X9_isCount (h - 1) (by omega) H.1 H.2.1) rfl rfl (by omega) (by omega) (by omega) rfl (Nat.le_of_ble_eq_true rfl) dX9_head_3) 6 rfl ?_
  rintro _ _ ⟨rfl, rfl⟩
  refine b_if_eq C 30 9 dX9_head_6 (by decide) rfl (fun c_6 => ?_) (fun c_6 => ?_)
  · refine j_iconst (v := nI 0) C dX9_head_30 (by decide) 31 rfl ?_
    exact j_iret C hQ ⟨by rw [gl_head, if_neg (fun q => by rw [c_6] at q; cases q.1)], _, rfl, gl_fq.rf⟩ (by omega) (by omega) dX9_head_31
  · obtain ⟨lg, m, hlg, hm, rfl, rfl⟩ := (gl_ic_iff H).mp c_6
    have hk := H.2.2 lg hlg
    have hcl : (nI lg).toNatClampNeg = lg := nI_clamp (by omega)
    have hcm : (nI m).toNatClampNeg = m := nI_clamp (by omega)
    refine j_iload_n C dX9_head_9 rfl 10 rfl ?_
    refine j_if_lt C 30 13 dX9_head_10 (by decide) rfl (fun c_10 => ?_) (fun c_10 => ?_)
    · refine j_iconst (v := nI 0) C dX9_head_30 (by decide) 31 rfl ?_
      exact j_iret C hQ ⟨by rw [gl_head, if_neg (fun q => by rw [gl_in_f1 c_10] at q; cases q.2.1)], _, rfl, gl_fq.rf⟩ (by omega) (by omega) dX9_head_31
    · obtain ⟨w_, hw_, rfl⟩ := nI_of c_10
      have hcw : (nI w_).toNatClampNeg = w_ := nI_clamp hw_
      refine j_iload_n C dX9_head_13 rfl 14 rfl ?_
      refine j_iconst (v := nI 2) C dX9_head_14 (by decide) 15 rfl ?_
      refine n_icmp_gt C 30 18 dX9_head_15 (by decide) rfl hw_ (by omega) (fun c_15 => ?_) (fun c_15 => ?_)
      · refine j_iconst (v := nI 0) C dX9_head_30 (by decide) 31 rfl ?_
        exact j_iret C hQ ⟨by rw [gl_head, if_neg (fun q => by rw [gl_in_nI hw_ (by decide), decide_eq_true_iff] at q; omega)], _, rfl, gl_fq.rf⟩ (by omega) (by omega) dX9_head_31
      · refine j_iload C dX9_head_18 rfl 20 rfl ?_
        refine j_if_lt C 30 23 dX9_head_20 (by decide) rfl (fun c_20 => ?_) (fun c_20 => ?_)
        · refine j_iconst (v := nI 0) C dX9_head_30 (by decide) 31 rfl ?_
          exact j_iret C hQ ⟨by rw [gl_head, if_neg (fun q => by rw [gl_in_f1 c_20] at q; cases q.2.2)], _, rfl, gl_fq.rf⟩ (by omega) (by omega) dX9_head_31
        · obtain ⟨j_, hj_, rfl⟩ := nI_of c_20
          have hcj : (nI j_).toNatClampNeg = j_ := nI_clamp hj_
          refine j_iload C dX9_head_23 rfl 25 rfl ?_
          refine j_bipush (v := nI 7) C dX9_head_25 (by decide) 27 rfl ?_
          refine n_icmp_le C 32 30 dX9_head_27 (by decide) rfl hj_ (by omega) (fun c_27 => ?_) (fun c_27 => ?_)
          · refine j_aload_n C dX9_head_32 rfl 33 rfl ?_
            refine j_iload_n C dX9_head_33 rfl 34 rfl ?_
            refine j_iload_n C dX9_head_34 rfl 35 rfl ?_
            refine j_aload_n C dX9_head_35 rfl 36 rfl ?_
            refine gf_X9_169 C rfl rfl dX9_head_36 39 rfl ?_
            refine j_iconst (v := nI 0) C dX9_head_39 (by decide) 40 rfl ?_
            refine j_cv C (cs_X9_285 C (ct_X9_head0 (n := m) (wn := hd lg + ld lg) (sn := sn lg) (h - 1) (by omega) (by omega) (by omega) (H.w hlg) hk.2.2.2.2.1 (fun w hw => (hk.2.2.2.2.2 w hw).1) (fun w hw => by have := (hk.2.2.2.2.2 w hw).2; omega)) rfl rfl (by omega) (by omega) (by omega) rfl (Nat.le_of_ble_eq_true rfl) dX9_head_40) 43 rfl ?_
            rintro _ ⟨I1, rfl, f1, d1⟩
            refine j_aload_n C dX9_head_43 rfl 44 rfl ?_
            refine gf_X9_169 C rfl rfl dX9_head_44 47 rfl ?_
            refine j_iconst (v := nI 4) C dX9_head_47 (by decide) 48 rfl ?_
            refine j_bipush (v := nI 8) C dX9_head_48 (by decide) 50 rfl ?_
            refine j_iload_n C dX9_head_50 rfl 51 rfl ?_
            refine n_imul C dX9_head_51 52 rfl ?_
            refine n_iadd C dX9_head_52 53 rfl ?_
            refine j_iload C dX9_head_53 rfl 55 rfl ?_
            refine n_iadd C dX9_head_55 56 rfl ?_
            refine j_iald C rfl (by omega) (by decide) dX9_head_56 57 rfl ?_
            rw [gl_hdP_at d1 (show w_ < 3 by omega) (show j_ < 8 by omega)]
            exact j_iret C hQ ⟨by rw [gl_head, if_pos ⟨c_6, by rw [gl_in_nI hw_ (by decide), decide_eq_true_iff]; omega, by rw [gl_in_nI hj_ (by decide), decide_eq_true_iff]; omega⟩, hcl, hcm, hcw, hcj], _, rfl, f1⟩ (by omega) (by omega) dX9_head_57
          · refine j_iconst (v := nI 0) C dX9_head_30 (by decide) 31 rfl ?_
            exact j_iret C hQ ⟨by rw [gl_head, if_neg (fun q => by rw [gl_in_nI hj_ (by decide), decide_eq_true_iff] at q; omega)], _, rfl, gl_fq.rf⟩ (by omega) (by omega) dX9_head_31
/-- the first k words of two rows are alike -/
def gl_lk (f g : Nat → Int32) : Nat → Bool
  | 0 => true
  | k + 1 => gl_lk f g k && decide (f k = g k)
theorem gl_lk_congr {f g f' g' : Nat → Int32} : ∀ (n : Nat), (∀ t, t < n → f t = f' t) → (∀ t, t < n → g t = g' t) → gl_lk f g n = gl_lk f' g' n
  | 0, _, _ => rfl
  | n + 1, h1, h2 => by
    unfold gl_lk
    rw [gl_lk_congr n (fun t ht => h1 t (by omega)) (fun t ht => h2 t (by omega)), h1 n (by omega), h2 n (by omega)]
set_option maxHeartbeats 4000000 in
set_option maxRecDepth 100000 in
theorem ct_X9_areLike {l : Launch} {δ : gl_Del} {Λ : Nat × (Nat → Nat × Nat)} {R : Nat → Nat → Option Nat} {I : Nat → Nat → Int32} {L : Nat → Nat → Int64} {B : Nat → Nat → Bool} {x y nx ny p q : Nat} (h : Nat) (hh : 1 ≤ h) (hx : Λ.2 x = (0, nx)) (hp : p + 8 ≤ nx) (hnx : nx < 2 ^ 31) (hy : Λ.2 y = (0, ny)) (hq : q + 8 ≤ ny) (hny : ny < 2 ^ 31) : gl_Ct l δ yX9_areLike (ws_ yX9_areLike cX9_areLike 6 ((some FieldType.boolean))) (gl_rm h 0 0) 0 0 [.ref x, .int (nI p), .ref y, .int (nI q)] (Λ, I, L, B, R) (gl_Qi fun r S => r = b2i (gl_lk (fun t => I x (p + t)) (fun t => I y (q + t)) 8) ∧ S = (Λ, I, L, B, R)) := by
  refine gl_of (by decide) (Nat.le_of_ble_eq_true rfl) rfl ?_
  intro κ C hQ hlκ hδκ hnL hini
  change gl_Cx κ RX9 _ _ _ at C
  have loop : ∀ k j : Nat, j + k = 8 → gl_J κ 0 0 (Λ, I, L, B, R) 6 [some (.ref x), some (.int (nI p)), some (.ref y), some (.int (nI q)), some (.int (b2i (gl_lk (fun t => I x (p + t)) (fun t => I y (q + t)) j))), some (.int (nI j))] [] := by
    intro k
    induction k with
    | zero =>
      intro j hj
      have hjN : j = 8 := by omega
      subst hjN
      refine j_iload C dX9_areLike_6 rfl 8 rfl ?_
      refine j_bipush (v := nI 8) C dX9_areLike_8 (by decide) 10 rfl ?_
      refine n_icmp_ge C 46 13 dX9_areLike_10 (by decide) rfl (by omega) (by omega) (fun c_10 => ?_) (fun c_10 => ?_)
      · refine j_iload C dX9_areLike_46 rfl 48 rfl ?_
        exact j_zret C hQ ⟨rfl, rfl⟩ (by omega) (by omega) dX9_areLike_48
      · exact absurd c_10 (by omega)
    | succ k ih =>
      intro j hj
      refine j_iload C dX9_areLike_6 rfl 8 rfl ?_
      refine j_bipush (v := nI 8) C dX9_areLike_8 (by decide) 10 rfl ?_
      refine n_icmp_ge C 46 13 dX9_areLike_10 (by decide) rfl (by omega) (by omega) (fun c_10 => ?_) (fun c_10 => ?_)
      · exact absurd c_10 (by omega)
      · refine j_iload C dX9_areLike_13 rfl 15 rfl ?_
        refine b_if_eq C 37 18 dX9_areLike_15 (by decide) rfl (fun c_15 => ?_) (fun c_15 => ?_)
        · refine j_iconst (v := b2i false) C dX9_areLike_37 (by decide) 38 rfl ?_
          refine j_istore C dX9_areLike_38 (Nat.le_of_ble_eq_true rfl) (by rw [hnL]; decide) rfl 40 rfl ?_
          refine n_iinc C dX9_areLike_40 rfl (by rw [hnL]; decide) rfl 43 rfl ?_
          refine j_goto (tgt := 6) C dX9_areLike_43 (by decide) ?_
          have e : gl_lk (fun t => I x (p + t)) (fun t => I y (q + t)) (j + 1) = false := by rw [gl_lk, c_15]; rfl
          have := ih (j + 1) (by omega)
          rw [e] at this
          exact this
        · refine j_aload_n C dX9_areLike_18 rfl 19 rfl ?_
          refine j_iload_n C dX9_areLike_19 rfl 20 rfl ?_
          refine j_iload C dX9_areLike_20 rfl 22 rfl ?_
          refine n_iadd C dX9_areLike_22 23 rfl ?_
          refine j_iald C hx (by omega) hnx dX9_areLike_23 24 rfl ?_
          refine j_aload_n C dX9_areLike_24 rfl 25 rfl ?_
          refine j_iload_n C dX9_areLike_25 rfl 26 rfl ?_
          refine j_iload C dX9_areLike_26 rfl 28 rfl ?_
          refine n_iadd C dX9_areLike_28 29 rfl ?_
          refine j_iald C hy (by omega) hny dX9_areLike_29 30 rfl ?_
          refine j_icmp_ne C 37 33 dX9_areLike_30 (by decide) rfl (fun c_30 => ?_) (fun c_30 => ?_)
          · refine j_iconst (v := b2i false) C dX9_areLike_37 (by decide) 38 rfl ?_
            refine j_istore C dX9_areLike_38 (Nat.le_of_ble_eq_true rfl) (by rw [hnL]; decide) rfl 40 rfl ?_
            refine n_iinc C dX9_areLike_40 rfl (by rw [hnL]; decide) rfl 43 rfl ?_
            refine j_goto (tgt := 6) C dX9_areLike_43 (by decide) ?_
            have e : gl_lk (fun t => I x (p + t)) (fun t => I y (q + t)) (j + 1) = false := by rw [gl_lk, decide_eq_false c_30, Bool.and_false]
            have := ih (j + 1) (by omega)
            rw [e] at this
            exact this
          · refine j_iconst (v := b2i true) C dX9_areLike_33 (by decide) 34 rfl ?_
            refine j_goto (tgt := 38) C dX9_areLike_34 (by decide) ?_
            refine j_istore C dX9_areLike_38 (Nat.le_of_ble_eq_true rfl) (by rw [hnL]; decide) rfl 40 rfl ?_
            refine n_iinc C dX9_areLike_40 rfl (by rw [hnL]; decide) rfl 43 rfl ?_
            refine j_goto (tgt := 6) C dX9_areLike_43 (by decide) ?_
            have e : gl_lk (fun t => I x (p + t)) (fun t => I y (q + t)) (j + 1) = true := by rw [gl_lk, c_15, decide_eq_true c_30]; rfl
            have := ih (j + 1) (by omega)
            rw [e] at this
            exact this
  refine j_iconst (v := b2i true) C dX9_areLike_0 (by decide) 1 rfl ?_
  refine j_istore C dX9_areLike_1 (Nat.le_of_ble_eq_true rfl) (by rw [hnL]; decide) rfl 3 rfl ?_
  refine j_iconst (v := nI 0) C dX9_areLike_3 (by decide) 4 rfl ?_
  refine j_istore C dX9_areLike_4 (Nat.le_of_ble_eq_true rfl) (by rw [hnL]; decide) rfl 6 rfl ?_
  exact loop 8 0 rfl
