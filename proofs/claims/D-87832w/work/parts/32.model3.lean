/-! MODULE Model, blocks: blockSum (by gen32.py) -/
set_option maxRecDepth 100000
/-- the sum of the block of 2^e entries from a on -/
def gl_bs (K : Nat → Int32) (V : Nat → Int64) : Nat → Nat → Nat → Int32
  | 0, a => gl_entry (K a) (V a)
  | e + 1, a => gl_join (gl_bs K V e a) (gl_bs K V e (a + 2 ^ e))
/-- what a block's sum leaves: its row, the deep rows below its level, all else but scratch -/
def gl_bsP (I I' : Nat → Nat → Int32) (to at_ lv : Nat) (r : Nat → Int32) : Prop := (∀ c, c ≠ 39 → c ≠ 40 → c ≠ 41 → c ≠ to → I' c = I c) ∧ (to ≠ 41 → I' to = va_cpy r (I to) 0 at_ 8) ∧ ∀ k, k < 16 * lv → I' 41 k = if to = 41 then va_cpy r (I 41) 0 at_ 8 k else I 41 k
theorem gl_bsP_0 {I : Nat → Nat → Int32} {w m r : Nat → Int32} {to at_ lv : Nat} : gl_bsP I (va_up (gl_wm I w m) to (va_cpy r (I to) 0 at_ 8)) to at_ lv r := by
  refine ⟨fun c h1 h2 _ h4 => by rw [gl_up_ne h4, gl_wm_o h1 h2], fun _ => gl_up_eq, fun k _ => ?_⟩
  by_cases h : to = 41
  · subst h; rw [if_pos rfl, gl_up_eq]
  · rw [if_neg h, gl_up_ne (Ne.symm h), gl_wm_o (by decide) (by decide)]
theorem gl_bsP_s {I I1 I2 : Nat → Nat → Int32} {w m ra rb : Nat → Int32} {to at_ lv : Nat} (h9 : to ≠ 39) (h0 : to ≠ 40) (h1 : gl_bsP I I1 41 (16 * lv) (lv + 1) ra) (h2 : gl_bsP I1 I2 41 (16 * lv + 8) (lv + 1) rb) :
    gl_bsP I (va_up (gl_wm I2 w m) to (va_cpy (gl_join (fun t => I2 41 (16 * lv + t)) (fun t => I2 41 (16 * lv + 8 + t))) (I2 to) 0 at_ 8)) to at_ lv (gl_join ra rb) := by
  obtain ⟨a1, -, a3⟩ := h1
  obtain ⟨b1, -, b3⟩ := h2
  have e : gl_join (fun t => I2 41 (16 * lv + t)) (fun t => I2 41 (16 * lv + 8 + t)) = gl_join ra rb := by
    refine gl_join_congr (fun t ht => ?_) (fun t ht => ?_)
    · show I2 41 (16 * lv + t) = ra t
      rw [b3 _ (by omega), if_pos rfl, pk_cpy_out (by omega), a3 _ (by omega), if_pos rfl, pk_cpy_in (by omega) (by omega)]
      congr 1; omega
    · show I2 41 (16 * lv + 8 + t) = rb t
      rw [b3 _ (by omega), if_pos rfl, pk_cpy_in (by omega) (by omega)]
      congr 1; omega
  have low : ∀ k, k < 16 * lv → I2 41 k = I 41 k := fun k hk => by
    rw [b3 _ (by omega), if_pos rfl, pk_cpy_out (by omega), a3 _ (by omega), if_pos rfl, pk_cpy_out (by omega)]
  rw [e]
  refine ⟨fun c c1 c2 c3 c4 => by rw [gl_up_ne c4, gl_wm_o c1 c2, b1 c c1 c2 c3 c3, a1 c c1 c2 c3 c3], fun h => ?_, fun k hk => ?_⟩
  · rw [gl_up_eq, b1 to h9 h0 h h, a1 to h9 h0 h h]
  · by_cases h : to = 41
    · subst h
      rw [if_pos rfl, gl_up_eq]
      unfold va_cpy
      by_cases hq : at_ ≤ k ∧ k < at_ + 8
      · rw [if_pos hq, if_pos hq]
      · rw [if_neg hq, if_neg hq, low k hk]
    · rw [if_neg h, gl_up_ne (Ne.symm h), gl_wm_o (by decide) (by decide), low k hk]
set_option maxHeartbeats 4000000 in
set_option maxRecDepth 100000 in
theorem ct_X9_blockSum (e : Nat) : ∀ {l : Launch} {δ : gl_Del} {I : Nat → Nat → Int32} {L : Nat → Nat → Int64} {B : Nat → Nat → Bool} {lg fr lv to nt at_ : Nat} (h : Nat) (hh : e + 4 ≤ h) (hlg : lg < 6) (hfr : fr + 2 ^ e ≤ 400) (hlv : lv + e ≤ 15) (ht : gl_msh to = (0, nt)) (ht9 : to ≠ 39) (htm : to ≠ 40) (hat : at_ + 8 ≤ nt) (hnt : nt < 2 ^ 31), gl_Ct l δ yX9_blockSum (ws_ yX9_blockSum cX9_blockSum 7 none) (gl_rm h 0 0) 0 0 [.ref 0, .int (nI lg), .int (nI fr), .int (nI (2 ^ e)), .int (nI lv), .ref to, .int (nI at_)] (gl_mL, I, L, B, gl_mR) (gl_Qv fun S => ∃ I', S = (gl_mL, I', L, B, gl_mR) ∧ gl_bsP I I' to at_ lv (gl_bs (fun i => I 2 (400 * lg + i)) (fun i => L 3 (400 * lg + i)) e fr)) := by
  induction e with
  | zero =>
    intro l δ I L B lg fr lv to nt at_ h hh hlg hfr hlv ht ht9 htm hat hnt
    refine gl_of (by decide) (Nat.le_of_ble_eq_true rfl) rfl ?_
    intro κ C hQ hlκ hδκ hnL hini
    change gl_Cx κ RX9 _ _ _ at C
    change gl_J κ 0 0 _ 0 [_, _, _, some (.int (nI 1)), _, _, _] _
    have hfr : fr + 1 ≤ 400 := hfr
    refine j_iload_n C dX9_blockSum_0 rfl 1 rfl ?_
    refine j_iconst (v := nI 1) C dX9_blockSum_1 (by decide) 2 rfl ?_
    refine n_icmp_ne (a := 1) C 38 5 dX9_blockSum_2 (by decide) rfl (by omega) (by omega) (fun c_2 => ?_) (fun c_2 => ?_)
    · exact absurd rfl c_2
    · refine j_aload_n C dX9_blockSum_5 rfl 6 rfl ?_
      refine j_aload_n C dX9_blockSum_6 rfl 7 rfl ?_
      refine gf_X9_13 C rfl rfl dX9_blockSum_7 10 rfl ?_
      refine j_sipush (v := nI 400) C dX9_blockSum_10 (by decide) 13 rfl ?_
      refine j_iload_n C dX9_blockSum_13 rfl 14 rfl ?_
      refine n_imul C dX9_blockSum_14 15 rfl ?_
      refine j_iload_n C dX9_blockSum_15 rfl 16 rfl ?_
      refine n_iadd C dX9_blockSum_16 17 rfl ?_
      refine j_iald C rfl (by omega) (by decide) dX9_blockSum_17 18 rfl ?_
      refine j_aload_n C dX9_blockSum_18 rfl 19 rfl ?_
      refine gf_X9_16 C rfl rfl dX9_blockSum_19 22 rfl ?_
      refine j_sipush (v := nI 400) C dX9_blockSum_22 (by decide) 25 rfl ?_
      refine j_iload_n C dX9_blockSum_25 rfl 26 rfl ?_
      refine n_imul C dX9_blockSum_26 27 rfl ?_
      refine j_iload_n C dX9_blockSum_27 rfl 28 rfl ?_
      refine n_iadd C dX9_blockSum_28 29 rfl ?_
      refine j_lald C rfl (by omega) (by decide) dX9_blockSum_29 30 rfl ?_
      refine j_aload C dX9_blockSum_30 rfl 32 rfl ?_
      refine j_iload C dX9_blockSum_32 rfl 34 rfl ?_
      refine j_cv C (cs_X9_196 C (ct_X9_entrySum (h - 1) (by omega) ht ht9 htm hat hnt) rfl rfl (by omega) (by omega) (by omega) rfl (Nat.le_of_ble_eq_true rfl) dX9_blockSum_34) 37 rfl ?_
      rintro _ ⟨w, m, rfl⟩
      exact j_ret C hQ ⟨_, rfl, gl_bsP_0⟩ (by omega) (by omega) dX9_blockSum_37
  | succ e ih =>
    intro l δ I L B lg fr lv to nt at_ h hh hlg hfr hlv ht ht9 htm hat hnt
    have h0 : 0 < 2 ^ e := Nat.two_pow_pos e
    have e1 : 2 ^ (e + 1) = 2 ^ e * 2 := Nat.pow_succ 2 e
    have hdiv : 2 ^ (e + 1) / 2 = 2 ^ e := by omega
    refine gl_of (by decide) (Nat.le_of_ble_eq_true rfl) rfl ?_
    intro κ C hQ hlκ hδκ hnL hini
    change gl_Cx κ RX9 _ _ _ at C
    refine j_iload_n C dX9_blockSum_0 rfl 1 rfl ?_
    refine j_iconst (v := nI 1) C dX9_blockSum_1 (by decide) 2 rfl ?_
    refine n_icmp_ne C 38 5 dX9_blockSum_2 (by decide) rfl (by omega) (by omega) (fun c_2 => ?_) (fun c_2 => ?_)
    · refine j_aload_n C dX9_blockSum_38 rfl 39 rfl ?_
      refine j_iload_n C dX9_blockSum_39 rfl 40 rfl ?_
      refine j_iload_n C dX9_blockSum_40 rfl 41 rfl ?_
      refine j_iload_n C dX9_blockSum_41 rfl 42 rfl ?_
      refine j_iconst (v := nI 2) C dX9_blockSum_42 (by decide) 43 rfl ?_
      refine n_idiv C dX9_blockSum_43 (by omega) (by omega) (by omega) 44 rfl ?_
      rw [hdiv]
      refine j_iload C dX9_blockSum_44 rfl 46 rfl ?_
      refine j_iconst (v := nI 1) C dX9_blockSum_46 (by decide) 47 rfl ?_
      refine n_iadd C dX9_blockSum_47 48 rfl ?_
      refine j_aload_n C dX9_blockSum_48 rfl 49 rfl ?_
      refine gf_X9_133 C rfl rfl dX9_blockSum_49 52 rfl ?_
      refine j_bipush (v := nI 16) C dX9_blockSum_52 (by decide) 54 rfl ?_
      refine j_iload C dX9_blockSum_54 rfl 56 rfl ?_
      refine n_imul C dX9_blockSum_56 57 rfl ?_
      refine j_cv C (cs_X9_200 C (ih (I := I) (nt := 256) (h - 1) (by omega) hlg (by omega) (by omega) rfl (by decide) (by decide) (by omega) (by decide)) rfl rfl (by omega) (by omega) (by omega) rfl (Nat.le_of_ble_eq_true rfl) dX9_blockSum_57) 60 rfl ?_
      rintro _ ⟨I1, rfl, h1⟩
      refine j_aload_n C dX9_blockSum_60 rfl 61 rfl ?_
      refine j_iload_n C dX9_blockSum_61 rfl 62 rfl ?_
      refine j_iload_n C dX9_blockSum_62 rfl 63 rfl ?_
      refine j_iload_n C dX9_blockSum_63 rfl 64 rfl ?_
      refine j_iconst (v := nI 2) C dX9_blockSum_64 (by decide) 65 rfl ?_
      refine n_idiv C dX9_blockSum_65 (by omega) (by omega) (by omega) 66 rfl ?_
      rw [hdiv]
      refine n_iadd C dX9_blockSum_66 67 rfl ?_
      refine j_iload_n C dX9_blockSum_67 rfl 68 rfl ?_
      refine j_iconst (v := nI 2) C dX9_blockSum_68 (by decide) 69 rfl ?_
      refine n_idiv C dX9_blockSum_69 (by omega) (by omega) (by omega) 70 rfl ?_
      rw [hdiv]
      refine j_iload C dX9_blockSum_70 rfl 72 rfl ?_
      refine j_iconst (v := nI 1) C dX9_blockSum_72 (by decide) 73 rfl ?_
      refine n_iadd C dX9_blockSum_73 74 rfl ?_
      refine j_aload_n C dX9_blockSum_74 rfl 75 rfl ?_
      refine gf_X9_133 C rfl rfl dX9_blockSum_75 78 rfl ?_
      refine j_bipush (v := nI 16) C dX9_blockSum_78 (by decide) 80 rfl ?_
      refine j_iload C dX9_blockSum_80 rfl 82 rfl ?_
      refine n_imul C dX9_blockSum_82 83 rfl ?_
      refine j_bipush (v := nI 8) C dX9_blockSum_83 (by decide) 85 rfl ?_
      refine n_iadd C dX9_blockSum_85 86 rfl ?_
      refine j_cv C (cs_X9_200 C (ih (I := I1) (nt := 256) (h - 1) (by omega) hlg (by omega) (by omega) rfl (by decide) (by decide) (by omega) (by decide)) rfl rfl (by omega) (by omega) (by omega) rfl (Nat.le_of_ble_eq_true rfl) dX9_blockSum_86) 89 rfl ?_
      rintro _ ⟨I2, rfl, h2⟩
      refine j_aload_n C dX9_blockSum_89 rfl 90 rfl ?_
      refine j_aload_n C dX9_blockSum_90 rfl 91 rfl ?_
      refine gf_X9_133 C rfl rfl dX9_blockSum_91 94 rfl ?_
      refine j_bipush (v := nI 16) C dX9_blockSum_94 (by decide) 96 rfl ?_
      refine j_iload C dX9_blockSum_96 rfl 98 rfl ?_
      refine n_imul C dX9_blockSum_98 99 rfl ?_
      refine j_aload_n C dX9_blockSum_99 rfl 100 rfl ?_
      refine gf_X9_133 C rfl rfl dX9_blockSum_100 103 rfl ?_
      refine j_bipush (v := nI 16) C dX9_blockSum_103 (by decide) 105 rfl ?_
      refine j_iload C dX9_blockSum_105 rfl 107 rfl ?_
      refine n_imul C dX9_blockSum_107 108 rfl ?_
      refine j_bipush (v := nI 8) C dX9_blockSum_108 (by decide) 110 rfl ?_
      refine n_iadd C dX9_blockSum_110 111 rfl ?_
      refine j_aload C dX9_blockSum_111 rfl 113 rfl ?_
      refine j_iload C dX9_blockSum_113 rfl 115 rfl ?_
      refine j_cv C (cs_X9_204 C (ct_X9_join (I := I2) (nx := 256) (ny := 256) (h - 1) (by omega) rfl (by decide) (by decide) (by omega) (by decide) rfl (by decide) (by decide) (by omega) (by decide) ht ht9 htm hat hnt) rfl rfl (by omega) (by omega) (by omega) rfl (Nat.le_of_ble_eq_true rfl) dX9_blockSum_115) 118 rfl ?_
      rintro _ ⟨w, m, rfl⟩
      exact j_ret C hQ ⟨_, rfl, by rw [h1.1 2 (by decide) (by decide) (by decide) (by decide)] at h2; exact gl_bsP_s ht9 htm h1 h2⟩ (by omega) (by omega) dX9_blockSum_118
    · exact absurd c_2 (by omega)
