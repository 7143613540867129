/-! MODULE Model, slots: held, absent (by gen48.py) -/
set_option maxRecDepth 100000
/-- down a key's way in a map -/
def gl_mdn (m : gl_Mp) (ky : Int32) : List (Nat → Int32) × gl_Mp := gl_dn (fun q => gl_leaf (q : Int32 × Nat).1 (nI q.2)) (fun d q => gl_bit (gl_way (q : Int32 × Nat).1) d) (fun d => gl_bit (gl_way ky) d) 256 0 m
theorem gl_dn_mem {α : Type} {lf : α → Nat → Int32} {bt : Nat → α → Bool} {kb : Nat → Bool} : ∀ (f d : Nat) (l : List α), ∀ x ∈ (gl_dn lf bt kb f d l).2, x ∈ l
  | 0, _, _, _, h => h
  | f + 1, d, l, x, hx => by
    rcases Nat.lt_or_ge l.length 2 with h | h
    · rw [gl_dn_1 (by omega)] at hx; exact hx
    · cases hk : kb d with
      | true => rw [gl_dn_r h hk] at hx; exact (List.mem_filter.mp (gl_dn_mem f (d + 1) _ x hx)).1
      | false => rw [gl_dn_l h hk] at hx; exact (List.mem_filter.mp (gl_dn_mem f (d + 1) _ x hx)).1
theorem gl_MP_dn {I : Nat → Nat → Int32} {m : gl_Mp} (h : gl_MP I m) (ky : Int32) : gl_mdn m ky = ((gl_dn (fun x => gl_leaf (I 47 x) (I 48 x)) (fun d x => gl_bit (fun t => I 49 (8 * x + t)) d) (fun d => gl_bit (gl_way ky) d) 256 0 (List.range m.length)).1, (gl_dn (fun x => gl_leaf (I 47 x) (I 48 x)) (fun d x => gl_bit (fun t => I 49 (8 * x + t)) d) (fun d => gl_bit (gl_way ky) d) 256 0 (List.range m.length)).2.map (gl_at m)) := by
  have e := gl_dn_congr (lf := fun x => gl_leaf (I 47 x) (I 48 x)) (lf' := fun x => gl_leaf (gl_at m x).1 (nI (gl_at m x).2)) (bt := fun d x => gl_bit (fun t => I 49 (8 * x + t)) d) (bt' := fun d x => gl_bit (gl_way (gl_at m x).1) d) (kb := fun d => gl_bit (gl_way ky) d) 256 0 (List.range m.length) (Nat.le_refl _) (fun x hx => by
    have := h.1.2 x (List.mem_range.mp hx)
    simp only [this.1, this.2]) (fun x hx d hd => gl_bit_congr hd (h.2 x (List.mem_range.mp hx)).2)
  unfold gl_mdn
  conv => lhs; rw [← gl_at_map m, gl_dn_map]
  rw [e]
/-- held -/
def gl_hok (I : Nat → Nat → Int32) (lm : Nat) (x y n : Int32) : Bool := gl_in x 16 && gl_ic I lm y n
def gl_held (I : Nat → Nat → Int32) (L : Nat → Nat → Int64) (B : Nat → Nat → Bool) (lm : Nat) (hd ld : Nat → Nat) (sn : Nat → Nat → Nat) (x y n ky r : Int32) (S : gl_Sto) : Prop := if gl_hok I lm x y n = true ∧ gl_fk (gl_lmap I B hd ld sn y.toNatClampNeg n.toNatClampNeg) ky < (gl_lmap I B hd ld sn y.toNatClampNeg n.toNatClampNeg).length then (r = nI (gl_mdn (gl_lmap I B hd ld sn y.toNatClampNeg n.toNatClampNeg) ky).1.length ∧ ∃ I', S = (gl_mL, I', L, B, gl_mR) ∧ gl_fq [9, 10, 12, 39, 40, 47, 48, 49, 50, 51, 52, 54, 55] [57, 62] I I' ∧ I' 9 = va_up (va_up (gl_bg (I 9) x.toNatClampNeg (nI 3) n (nI 0) (nI 0)) (8 * x.toNatClampNeg + 5) (nI (gl_at (gl_lmap I B hd ld sn y.toNatClampNeg n.toNatClampNeg) (gl_fk (gl_lmap I B hd ld sn y.toNatClampNeg n.toNatClampNeg) ky)).2)) (8 * x.toNatClampNeg + 1) r ∧ I' 12 = gl_wrs (8 * (256 * x.toNatClampNeg)) (gl_mdn (gl_lmap I B hd ld sn y.toNatClampNeg n.toNatClampNeg) ky).1 0 (I 12) ∧ I' 10 = va_up (I 10) (40 * x.toNatClampNeg) ky) else (r = -1 ∧ ∃ I', S = (gl_mL, I', L, B, gl_mR) ∧ gl_fq [39, 40, 47, 48, 49, 50] [57] I I')
/-- what stands at a way's end -/
def gl_alL (m : gl_Mp) : Int32 := match m with | [] => -1 | q :: _ => nI q.2
def gl_alK (m : gl_Mp) : Int32 := match m with | [] => nI 0 | q :: _ => q.1
def gl_alI (m : gl_Mp) : Int32 := match m with | [] => nI 0 | _ :: _ => nI 1
def gl_absent (I : Nat → Nat → Int32) (L : Nat → Nat → Int64) (B : Nat → Nat → Bool) (lm : Nat) (hd ld : Nat → Nat) (sn : Nat → Nat → Nat) (x y n ky r : Int32) (S : gl_Sto) : Prop := if gl_hok I lm x y n = true ∧ ¬ gl_fk (gl_lmap I B hd ld sn y.toNatClampNeg n.toNatClampNeg) ky < (gl_lmap I B hd ld sn y.toNatClampNeg n.toNatClampNeg).length then (r = nI (gl_mdn (gl_lmap I B hd ld sn y.toNatClampNeg n.toNatClampNeg) ky).1.length ∧ ∃ I', S = (gl_mL, I', L, B, gl_mR) ∧ gl_fq [9, 10, 12, 39, 40, 47, 48, 49, 50, 51, 52, 54, 55] [57, 62] I I' ∧ I' 9 = va_up (va_up (va_up (va_up (gl_bg (I 9) x.toNatClampNeg (nI 4) n (nI 0) (nI 0)) (8 * x.toNatClampNeg + 1) r) (8 * x.toNatClampNeg + 5) (gl_alL (gl_mdn (gl_lmap I B hd ld sn y.toNatClampNeg n.toNatClampNeg) ky).2)) (8 * x.toNatClampNeg + 6) (gl_alK (gl_mdn (gl_lmap I B hd ld sn y.toNatClampNeg n.toNatClampNeg) ky).2)) (8 * x.toNatClampNeg + 7) (gl_alI (gl_mdn (gl_lmap I B hd ld sn y.toNatClampNeg n.toNatClampNeg) ky).2) ∧ I' 12 = gl_wrs (8 * (256 * x.toNatClampNeg)) (gl_mdn (gl_lmap I B hd ld sn y.toNatClampNeg n.toNatClampNeg) ky).1 0 (I 12) ∧ I' 10 = va_up (I 10) (40 * x.toNatClampNeg) ky) else (r = -1 ∧ ∃ I', S = (gl_mL, I', L, B, gl_mR) ∧ gl_fq [39, 40, 47, 48, 49, 50] [57] I I')
theorem gl_MP_fq {X Y : List Nat} {I J : Nat → Nat → Int32} {m : gl_Mp} (h : gl_MP I m) (hf : gl_fq X Y I J) (h7 : 47 ∉ X := by decide) (h8 : 48 ∉ X := by decide) (h9 : 49 ∉ X := by decide) (h5 : 50 ∉ X := by decide) (hY : 57 ∉ Y := by decide) : gl_MP J m := by
  unfold gl_MP gl_mm at *
  rw [hf.2 57 hY, hf.1 47 (by decide) h7, hf.1 48 (by decide) h8, hf.1 49 (by decide) h9, hf.1 50 (by decide) h5]
  exact h
set_option maxHeartbeats 4000000 in
set_option maxRecDepth 100000 in
theorem ct_X9_held {l : Launch} {δ : gl_Del} {I : Nat → Nat → Int32} {L : Nat → Nat → Int64} {B : Nat → Nat → Bool} {lm : Nat} {mn hd ld : Nat → Nat} {sn : Nat → Nat → Nat} {x y n ky : Int32} (h : Nat) (hh : 265 ≤ h) (H : gl_LI I lm mn hd ld sn) : gl_Ct l δ yX9_held (ws_ yX9_held cX9_held 6 ((some FieldType.int))) (gl_rm h 0 0) 0 0 [.ref 0, .int x, .int y, .int n, .int ky] (gl_mL, I, L, B, gl_mR) (gl_Qi fun r S => gl_held I L B lm hd ld sn x y n ky r S) := by
  refine gl_of (by decide) (Nat.le_of_ble_eq_true rfl) rfl ?_
  intro κ C hQ hlκ hδκ hnL hini
  change gl_Cx κ RX9 _ _ _ at C
  have hlm6 : lm ≤ 6 := H.2.1
  refine j_aload_n C dX9_held_0 rfl 1 rfl ?_
  refine j_iload_n C dX9_held_1 rfl 2 rfl ?_
  refine j_ci C (cs_X9_292 C (ct_X9_isSlot (h - 1) (by omega)) rfl rfl (by omega) (by omega) (by omega) rfl (Nat.le_of_ble_eq_true rfl) dX9_held_2) 5 rfl ?_
  rintro _ _ ⟨rfl, rfl⟩
  refine b_if_eq C 17 8 dX9_held_5 (by decide) rfl (fun c_5 => ?_) (fun c_5 => ?_)
  · refine j_iconst (v := -1) C dX9_held_17 (by decide) 18 rfl ?_
    exact j_iret C hQ (by rw [gl_held, if_neg (by rw [gl_hok, c_5]; simp)]; exact ⟨rfl, _, rfl, gl_fq.rf⟩) (by omega) (by omega) dX9_held_18
  · obtain ⟨s, hs, rfl⟩ := (gl_in_iff (by decide)).mp c_5
    have hcs : (nI s).toNatClampNeg = s := nI_clamp (by omega)
    refine j_aload_n C dX9_held_8 rfl 9 rfl ?_
    refine j_iload_n C dX9_held_9 rfl 10 rfl ?_
    refine j_iload_n C dX9_held_10 rfl 11 rfl ?_
    refine j_ci C (cs_X9_277 C (ct_X9_isCount (h - 1) (by omega) H.1 H.2.1) rfl rfl (by omega) (by omega) (by omega) rfl (Nat.le_of_ble_eq_true rfl) dX9_held_11) 14 rfl ?_
    rintro _ _ ⟨rfl, rfl⟩
    refine b_if_ne C 19 17 dX9_held_14 (by decide) rfl (fun c_14 => ?_) (fun c_14 => ?_)
    · obtain ⟨lg, m, hlg, hm, rfl, rfl⟩ := (gl_ic_iff H).mp c_14
      have hk := H.2.2 lg hlg
      have hcl : (nI lg).toNatClampNeg = lg := nI_clamp (by omega)
      have hcm : (nI m).toNatClampNeg = m := nI_clamp (by omega)
      have hok : gl_hok I lm (nI s) (nI lg) (nI m) = true := by rw [gl_hok, c_5, c_14]; rfl
      refine j_aload_n C dX9_held_19 rfl 20 rfl ?_
      refine j_iload_n C dX9_held_20 rfl 21 rfl ?_
      refine j_iload_n C dX9_held_21 rfl 22 rfl ?_
      refine j_cv C (cs_X9_260 C (ct_X9_map (n := m) (wn := hd lg + ld lg) (sn := sn lg) (h - 1) (by omega) (by omega) (by omega) (H.w hlg) hk.2.2.2.2.1 (fun w hw => (hk.2.2.2.2.2 w hw).1) (fun w hw => by have := (hk.2.2.2.2.2 w hw).2; omega)) rfl rfl (by omega) (by omega) (by omega) rfl (Nat.le_of_ble_eq_true rfl) dX9_held_22) 25 rfl ?_
      rintro _ ⟨I1, rfl, f1, m1⟩
      change gl_MP I1 (gl_lmap I B hd ld sn lg m) at m1
      have nd1 : gl_nd (gl_lmap I B hd ld sn lg m) := gl_nd_map m
      have ml1 : (gl_lmap I B hd ld sn lg m).length ≤ m := gl_map_len m
      have fk1 := gl_mm_fk m1.1 ky
      refine j_aload_n C dX9_held_25 rfl 26 rfl ?_
      refine j_iload C dX9_held_26 rfl 28 rfl ?_
      refine j_ci C (cs_X9_230 C (ct_X9_find (n := (gl_lmap I B hd ld sn lg m).length) (h - 1) (by omega) m1.1.1 (by omega)) rfl rfl (by omega) (by omega) (by omega) rfl (Nat.le_of_ble_eq_true rfl) dX9_held_28) 31 rfl ?_
      rintro _ _ ⟨rfl, rfl⟩
      rw [gl_fd, fk1]
      by_cases hin : gl_fk (gl_lmap I B hd ld sn lg m) ky < (gl_lmap I B hd ld sn lg m).length
      case neg =>
        rw [if_neg hin]
        refine j_istore C dX9_held_31 (Nat.le_of_ble_eq_true rfl) (by rw [hnL]; decide) rfl 33 rfl ?_
        refine j_iload C dX9_held_33 rfl 35 rfl ?_
        refine j_iconst (v := -1) C dX9_held_35 (by decide) 36 rfl ?_
        refine j_icmp_ne C 41 39 dX9_held_36 (by decide) rfl (fun c_36 => ?_) (fun c_36 => ?_)
        · exact absurd rfl c_36
        · refine j_iconst (v := -1) C dX9_held_39 (by decide) 40 rfl ?_
          exact j_iret C hQ (by rw [gl_held, if_neg (by rw [hcl, hcm]; exact fun q => hin q.2)]; exact ⟨rfl, _, rfl, f1⟩) (by omega) (by omega) dX9_held_40
      rw [if_pos hin]
      refine j_istore C dX9_held_31 (Nat.le_of_ble_eq_true rfl) (by rw [hnL]; decide) rfl 33 rfl ?_
      refine j_iload C dX9_held_33 rfl 35 rfl ?_
      refine j_iconst (v := -1) C dX9_held_35 (by decide) 36 rfl ?_
      refine j_icmp_ne C 41 39 dX9_held_36 (by decide) rfl (fun c_36 => ?_) (fun c_36 => ?_)
      · refine j_aload_n C dX9_held_41 rfl 42 rfl ?_
        refine j_iload_n C dX9_held_42 rfl 43 rfl ?_
        refine j_iconst (v := nI 3) C dX9_held_43 (by decide) 44 rfl ?_
        refine j_iload_n C dX9_held_44 rfl 45 rfl ?_
        refine j_iconst (v := nI 0) C dX9_held_45 (by decide) 46 rfl ?_
        refine j_iconst (v := nI 0) C dX9_held_46 (by decide) 47 rfl ?_
        refine j_cv C (cs_X9_295 C (ct_X9_begin (h - 1) (by omega) hs) rfl rfl (by omega) (by omega) (by omega) rfl (Nat.le_of_ble_eq_true rfl) dX9_held_47) 50 rfl ?_
        rintro _ rfl
        refine j_aload_n C dX9_held_50 rfl 51 rfl ?_
        refine gf_X9_39 C rfl rfl dX9_held_51 54 rfl ?_
        refine j_bipush (v := nI 40) C dX9_held_54 (by decide) 56 rfl ?_
        refine j_iload_n C dX9_held_56 rfl 57 rfl ?_
        refine n_imul C dX9_held_57 58 rfl ?_
        refine j_iload C dX9_held_58 rfl 60 rfl ?_
        refine j_iast C rfl (by omega) (by decide) dX9_held_60 61 rfl ?_
        refine j_aload_n C dX9_held_61 rfl 62 rfl ?_
        refine gf_X9_36 C rfl rfl dX9_held_62 65 rfl ?_
        refine j_bipush (v := nI 8) C dX9_held_65 (by decide) 67 rfl ?_
        refine j_iload_n C dX9_held_67 rfl 68 rfl ?_
        refine n_imul C dX9_held_68 69 rfl ?_
        refine j_iconst (v := nI 5) C dX9_held_69 (by decide) 70 rfl ?_
        refine n_iadd C dX9_held_70 71 rfl ?_
        refine j_aload_n C dX9_held_71 rfl 72 rfl ?_
        refine gf_X9_154 C rfl rfl dX9_held_72 75 rfl ?_
        refine j_iload C dX9_held_75 rfl 77 rfl ?_
        refine j_iald C rfl (by omega) (by decide) dX9_held_77 78 rfl ?_
        rw [gl_u2_ne (show (48 : Nat) ≠ 10 by decide), gl_up_ne (show (48 : Nat) ≠ 9 by decide), (m1.1.2 _ hin).2]
        refine j_iast C rfl (by omega) (by decide) dX9_held_78 79 rfl ?_
        refine j_aload_n C dX9_held_79 rfl 80 rfl ?_
        refine j_iload_n C dX9_held_80 rfl 81 rfl ?_
        refine j_iload C dX9_held_81 rfl 83 rfl ?_
        refine j_cv C (cs_X9_306 C (ct_X9_follow (I := (gl_u2 (gl_u2 (va_up I1 9 (gl_bg (I1 9) s (nI 3) (nI m) (nI 0) (nI 0))) 10 (40 * s) ky) 9 (8 * s + 5) (nI (gl_at (gl_lmap I B hd ld sn lg m) (gl_fk (gl_lmap I B hd ld sn lg m) ky)).2))) (s := s) (ky := ky) (mp := (gl_lmap I B hd ld sn lg m)) (h - 1) (by omega) hs (gl_MP_fq m1 ((((gl_fq.rf (X := [9, 10]) (Y := [])).up (by decide) (by decide)).u2 (by decide) (by decide)).u2 (by decide) (by decide))) nd1 (by omega) (by rw [gl_u2_eq, gl_up_ne (by omega), gl_u2_ne (show (9 : Nat) ≠ 10 by decide), gl_up_eq, gl_bg_1])) rfl rfl (by omega) (by omega) (by omega) rfl (Nat.le_of_ble_eq_true rfl) dX9_held_83) 86 rfl ?_
        rintro _ ⟨I2, rfl, f2, a2, b2, c2⟩
        have dn := gl_MP_dn m1 ky
        rw [gl_u2_ne (show (47 : Nat) ≠ 9 by decide), gl_u2_ne (show (47 : Nat) ≠ 10 by decide), gl_up_ne (show (47 : Nat) ≠ 9 by decide), gl_u2_ne (show (48 : Nat) ≠ 9 by decide), gl_u2_ne (show (48 : Nat) ≠ 10 by decide), gl_up_ne (show (48 : Nat) ≠ 9 by decide), gl_u2_ne (show (49 : Nat) ≠ 9 by decide), gl_u2_ne (show (49 : Nat) ≠ 10 by decide), gl_up_ne (show (49 : Nat) ≠ 9 by decide)] at a2 b2
        have d1 := congrArg Prod.fst dn
        simp only at d1
        rw [← d1] at a2 b2
        rw [gl_u2_eq, gl_u2_ne (show (9 : Nat) ≠ 10 by decide), gl_up_eq, f1.1 9 (by decide) (by decide)] at a2
        rw [gl_u2_ne (show (12 : Nat) ≠ 9 by decide), gl_u2_ne (show (12 : Nat) ≠ 10 by decide), gl_up_ne (show (12 : Nat) ≠ 9 by decide), f1.1 12 (by decide) (by decide)] at b2
        have c3 : I2 10 = va_up (I 10) (40 * s) ky := by rw [f2.1 10 (by decide) (by decide), gl_u2_ne (show (10 : Nat) ≠ 9 by decide), gl_u2_eq, gl_up_ne (show (10 : Nat) ≠ 9 by decide), f1.1 10 (by decide) (by decide)]
        have q2 : gl_fq [9, 10, 12, 39, 40, 47, 48, 49, 50, 51, 52, 54, 55] [57, 62] I I2 := ((((f1.mo (by decide) (by decide)).up (by decide) (by decide)).u2 (by decide) (by decide)).u2 (by decide) (by decide)).tr (f2.mo (by decide) (by decide))
        refine j_aload_n C dX9_held_86 rfl 87 rfl ?_
        refine gf_X9_36 C rfl rfl dX9_held_87 90 rfl ?_
        refine j_bipush (v := nI 8) C dX9_held_90 (by decide) 92 rfl ?_
        refine j_iload_n C dX9_held_92 rfl 93 rfl ?_
        refine n_imul C dX9_held_93 94 rfl ?_
        refine j_iconst (v := nI 1) C dX9_held_94 (by decide) 95 rfl ?_
        refine n_iadd C dX9_held_95 96 rfl ?_
        refine j_iald C rfl (by omega) (by decide) dX9_held_96 97 rfl ?_
        rw [a2, gl_up_eq]
        exact j_iret C hQ (by rw [gl_held, if_pos ⟨hok, by rw [hcl, hcm]; exact hin⟩, hcs, hcl, hcm]; exact ⟨rfl, _, rfl, q2, a2, b2, c3⟩) (by omega) (by omega) dX9_held_97
      · exact absurd c_36 (gl_nm1 (by omega))
    · refine j_iconst (v := -1) C dX9_held_17 (by decide) 18 rfl ?_
      exact j_iret C hQ (by rw [gl_held, if_neg (by rw [gl_hok, c_5, c_14]; simp)]; exact ⟨rfl, _, rfl, gl_fq.rf⟩) (by omega) (by omega) dX9_held_18
set_option maxHeartbeats 4000000 in
set_option maxRecDepth 100000 in
theorem ct_X9_absent {l : Launch} {δ : gl_Del} {I : Nat → Nat → Int32} {L : Nat → Nat → Int64} {B : Nat → Nat → Bool} {lm : Nat} {mn hd ld : Nat → Nat} {sn : Nat → Nat → Nat} {x y n ky : Int32} (h : Nat) (hh : 265 ≤ h) (H : gl_LI I lm mn hd ld sn) : gl_Ct l δ yX9_absent (ws_ yX9_absent cX9_absent 5 ((some FieldType.int))) (gl_rm h 0 0) 0 0 [.ref 0, .int x, .int y, .int n, .int ky] (gl_mL, I, L, B, gl_mR) (gl_Qi fun r S => gl_absent I L B lm hd ld sn x y n ky r S) := by
  refine gl_of (by decide) (Nat.le_of_ble_eq_true rfl) rfl ?_
  intro κ C hQ hlκ hδκ hnL hini
  change gl_Cx κ RX9 _ _ _ at C
  have hlm6 : lm ≤ 6 := H.2.1
  refine j_aload_n C dX9_absent_0 rfl 1 rfl ?_
  refine j_iload_n C dX9_absent_1 rfl 2 rfl ?_
  refine j_ci C (cs_X9_292 C (ct_X9_isSlot (h - 1) (by omega)) rfl rfl (by omega) (by omega) (by omega) rfl (Nat.le_of_ble_eq_true rfl) dX9_absent_2) 5 rfl ?_
  rintro _ _ ⟨rfl, rfl⟩
  refine b_if_eq C 17 8 dX9_absent_5 (by decide) rfl (fun c_5 => ?_) (fun c_5 => ?_)
  · refine j_iconst (v := -1) C dX9_absent_17 (by decide) 18 rfl ?_
    exact j_iret C hQ (by rw [gl_absent, if_neg (by rw [gl_hok, c_5]; simp)]; exact ⟨rfl, _, rfl, gl_fq.rf⟩) (by omega) (by omega) dX9_absent_18
  · obtain ⟨s, hs, rfl⟩ := (gl_in_iff (by decide)).mp c_5
    have hcs : (nI s).toNatClampNeg = s := nI_clamp (by omega)
    refine j_aload_n C dX9_absent_8 rfl 9 rfl ?_
    refine j_iload_n C dX9_absent_9 rfl 10 rfl ?_
    refine j_iload_n C dX9_absent_10 rfl 11 rfl ?_
    refine j_ci C (cs_X9_277 C (ct_X9_isCount (h - 1) (by omega) H.1 H.2.1) rfl rfl (by omega) (by omega) (by omega) rfl (Nat.le_of_ble_eq_true rfl) dX9_absent_11) 14 rfl ?_
    rintro _ _ ⟨rfl, rfl⟩
    refine b_if_ne C 19 17 dX9_absent_14 (by decide) rfl (fun c_14 => ?_) (fun c_14 => ?_)
    · obtain ⟨lg, m, hlg, hm, rfl, rfl⟩ := (gl_ic_iff H).mp c_14
      have hk := H.2.2 lg hlg
      have hcl : (nI lg).toNatClampNeg = lg := nI_clamp (by omega)
      have hcm : (nI m).toNatClampNeg = m := nI_clamp (by omega)
      have hok : gl_hok I lm (nI s) (nI lg) (nI m) = true := by rw [gl_hok, c_5, c_14]; rfl
      refine j_aload_n C dX9_absent_19 rfl 20 rfl ?_
      refine j_iload_n C dX9_absent_20 rfl 21 rfl ?_
      refine j_iload_n C dX9_absent_21 rfl 22 rfl ?_
      refine j_cv C (cs_X9_260 C (ct_X9_map (n := m) (wn := hd lg + ld lg) (sn := sn lg) (h - 1) (by omega) (by omega) (by omega) (H.w hlg) hk.2.2.2.2.1 (fun w hw => (hk.2.2.2.2.2 w hw).1) (fun w hw => by have := (hk.2.2.2.2.2 w hw).2; omega)) rfl rfl (by omega) (by omega) (by omega) rfl (Nat.le_of_ble_eq_true rfl) dX9_absent_22) 25 rfl ?_
      rintro _ ⟨I1, rfl, f1, m1⟩
      change gl_MP I1 (gl_lmap I B hd ld sn lg m) at m1
      have nd1 : gl_nd (gl_lmap I B hd ld sn lg m) := gl_nd_map m
      have ml1 : (gl_lmap I B hd ld sn lg m).length ≤ m := gl_map_len m
      have fk1 := gl_mm_fk m1.1 ky
      refine j_aload_n C dX9_absent_25 rfl 26 rfl ?_
      refine j_iload C dX9_absent_26 rfl 28 rfl ?_
      refine j_ci C (cs_X9_230 C (ct_X9_find (n := (gl_lmap I B hd ld sn lg m).length) (h - 1) (by omega) m1.1.1 (by omega)) rfl rfl (by omega) (by omega) (by omega) rfl (Nat.le_of_ble_eq_true rfl) dX9_absent_28) 31 rfl ?_
      rintro _ _ ⟨rfl, rfl⟩
      rw [gl_fd, fk1]
      by_cases hin : gl_fk (gl_lmap I B hd ld sn lg m) ky < (gl_lmap I B hd ld sn lg m).length
      case pos =>
        rw [if_pos hin]
        refine j_iconst (v := -1) C dX9_absent_31 (by decide) 32 rfl ?_
        refine j_icmp_eq C 37 35 dX9_absent_32 (by decide) rfl (fun c_32 => ?_) (fun c_32 => ?_)
        · exact absurd c_32 (gl_nm1 (by omega))
        · refine j_iconst (v := -1) C dX9_absent_35 (by decide) 36 rfl ?_
          exact j_iret C hQ (by rw [gl_absent, if_neg (by rw [hcl, hcm]; exact fun q => q.2 hin)]; exact ⟨rfl, _, rfl, f1⟩) (by omega) (by omega) dX9_absent_36
      rw [if_neg hin]
      refine j_iconst (v := -1) C dX9_absent_31 (by decide) 32 rfl ?_
      refine j_icmp_eq C 37 35 dX9_absent_32 (by decide) rfl (fun c_32 => ?_) (fun c_32 => ?_)
      · refine j_aload_n C dX9_absent_37 rfl 38 rfl ?_
        refine j_iload_n C dX9_absent_38 rfl 39 rfl ?_
        refine j_iconst (v := nI 4) C dX9_absent_39 (by decide) 40 rfl ?_
        refine j_iload_n C dX9_absent_40 rfl 41 rfl ?_
        refine j_iconst (v := nI 0) C dX9_absent_41 (by decide) 42 rfl ?_
        refine j_iconst (v := nI 0) C dX9_absent_42 (by decide) 43 rfl ?_
        refine j_cv C (cs_X9_295 C (ct_X9_begin (h - 1) (by omega) hs) rfl rfl (by omega) (by omega) (by omega) rfl (Nat.le_of_ble_eq_true rfl) dX9_absent_43) 46 rfl ?_
        rintro _ rfl
        refine j_aload_n C dX9_absent_46 rfl 47 rfl ?_
        refine gf_X9_39 C rfl rfl dX9_absent_47 50 rfl ?_
        refine j_bipush (v := nI 40) C dX9_absent_50 (by decide) 52 rfl ?_
        refine j_iload_n C dX9_absent_52 rfl 53 rfl ?_
        refine n_imul C dX9_absent_53 54 rfl ?_
        refine j_iload C dX9_absent_54 rfl 56 rfl ?_
        refine j_iast C rfl (by omega) (by decide) dX9_absent_56 57 rfl ?_
        refine j_aload_n C dX9_absent_57 rfl 58 rfl ?_
        refine j_iload_n C dX9_absent_58 rfl 59 rfl ?_
        refine j_iload C dX9_absent_59 rfl 61 rfl ?_
        refine j_cv C (cs_X9_306 C (ct_X9_follow (I := (gl_u2 (va_up I1 9 (gl_bg (I1 9) s (nI 4) (nI m) (nI 0) (nI 0))) 10 (40 * s) ky)) (s := s) (ky := ky) (mp := (gl_lmap I B hd ld sn lg m)) (h - 1) (by omega) hs (gl_MP_fq m1 (((gl_fq.rf (X := [9, 10]) (Y := [])).up (by decide) (by decide)).u2 (by decide) (by decide))) nd1 (by omega) (by rw [gl_u2_ne (show (9 : Nat) ≠ 10 by decide), gl_up_eq, gl_bg_1])) rfl rfl (by omega) (by omega) (by omega) rfl (Nat.le_of_ble_eq_true rfl) dX9_absent_61) 64 rfl ?_
        rintro _ ⟨I2, rfl, f2, a2, b2, c2⟩
        have dn := gl_MP_dn m1 ky
        rw [gl_u2_ne (show (47 : Nat) ≠ 10 by decide), gl_up_ne (show (47 : Nat) ≠ 9 by decide), gl_u2_ne (show (48 : Nat) ≠ 10 by decide), gl_up_ne (show (48 : Nat) ≠ 9 by decide), gl_u2_ne (show (49 : Nat) ≠ 10 by decide), gl_up_ne (show (49 : Nat) ≠ 9 by decide)] at a2 b2 c2
        have d1 := congrArg Prod.fst dn
        have d2 := congrArg Prod.snd dn
        simp only at d1 d2
        rw [← d1] at a2 b2
        rw [gl_u2_ne (show (9 : Nat) ≠ 10 by decide), gl_up_eq, f1.1 9 (by decide) (by decide)] at a2
        rw [gl_u2_ne (show (12 : Nat) ≠ 10 by decide), gl_up_ne (show (12 : Nat) ≠ 9 by decide), f1.1 12 (by decide) (by decide)] at b2
        have c3 : I2 10 = va_up (I 10) (40 * s) ky := by rw [f2.1 10 (by decide) (by decide), gl_u2_eq, gl_up_ne (show (10 : Nat) ≠ 9 by decide), f1.1 10 (by decide) (by decide)]
        have q2 : gl_fq [9, 10, 12, 39, 40, 47, 48, 49, 50, 51, 52, 54, 55] [57, 62] I I2 := (((f1.mo (by decide) (by decide)).up (by decide) (by decide)).u2 (by decide) (by decide)).tr (f2.mo (by decide) (by decide))
        have g47 : I2 47 = I1 47 := by rw [f2.1 47 (by decide) (by decide), gl_u2_ne (show (47 : Nat) ≠ 10 by decide), gl_up_ne (show (47 : Nat) ≠ 9 by decide)]
        have g48 : I2 48 = I1 48 := by rw [f2.1 48 (by decide) (by decide), gl_u2_ne (show (48 : Nat) ≠ 10 by decide), gl_up_ne (show (48 : Nat) ≠ 9 by decide)]
        have hix := gl_dn_mem (lf := fun x => gl_leaf (I1 47 x) (I1 48 x)) (bt := fun d x => gl_bit (fun t => I1 49 (8 * x + t)) d) (kb := fun d => gl_bit (gl_way ky) d) 256 0 (List.range (gl_lmap I B hd ld sn lg m).length)
        revert c2 d2 hix
        generalize (gl_dn (fun x => gl_leaf (I1 47 x) (I1 48 x)) (fun d x => gl_bit (fun t => I1 49 (8 * x + t)) d) (fun d => gl_bit (gl_way ky) d) 256 0 (List.range (gl_lmap I B hd ld sn lg m).length)).2 = ix
        intro c2 d2 hix
        match ix, c2, d2, hix with
        | [], c2, d2, hix =>
          have c2 : I2 0 62 = -1 := c2
          refine j_aload_n C dX9_absent_64 rfl 65 rfl ?_
          refine gf_X9_36 C rfl rfl dX9_absent_65 68 rfl ?_
          refine j_bipush (v := nI 8) C dX9_absent_68 (by decide) 70 rfl ?_
          refine j_iload_n C dX9_absent_70 rfl 71 rfl ?_
          refine n_imul C dX9_absent_71 72 rfl ?_
          refine j_iconst (v := nI 5) C dX9_absent_72 (by decide) 73 rfl ?_
          refine n_iadd C dX9_absent_73 74 rfl ?_
          refine j_aload_n C dX9_absent_74 rfl 75 rfl ?_
          refine gf_X9_303 C rfl dX9_absent_75 78 rfl ?_
          rw [c2]
          refine j_iconst (v := -1) C dX9_absent_78 (by decide) 79 rfl ?_
          refine j_icmp_ne C 86 82 dX9_absent_79 (by decide) rfl (fun c_79 => ?_) (fun c_79 => ?_)
          · exact absurd rfl c_79
          · refine j_iconst (v := -1) C dX9_absent_82 (by decide) 83 rfl ?_
            refine j_goto (tgt := 95) C dX9_absent_83 (by decide) ?_
            refine j_iast C rfl (by omega) (by decide) dX9_absent_95 96 rfl ?_
            refine j_aload_n C dX9_absent_96 rfl 97 rfl ?_
            refine gf_X9_36 C rfl rfl dX9_absent_97 100 rfl ?_
            refine j_bipush (v := nI 8) C dX9_absent_100 (by decide) 102 rfl ?_
            refine j_iload_n C dX9_absent_102 rfl 103 rfl ?_
            refine n_imul C dX9_absent_103 104 rfl ?_
            refine j_bipush (v := nI 6) C dX9_absent_104 (by decide) 106 rfl ?_
            refine n_iadd C dX9_absent_106 107 rfl ?_
            refine j_aload_n C dX9_absent_107 rfl 108 rfl ?_
            refine gf_X9_303 C rfl dX9_absent_108 111 rfl ?_
            rw [gl_u2_ne (show (0 : Nat) ≠ 9 by decide), c2]
            refine j_iconst (v := -1) C dX9_absent_111 (by decide) 112 rfl ?_
            refine j_icmp_ne C 119 115 dX9_absent_112 (by decide) rfl (fun c_112 => ?_) (fun c_112 => ?_)
            · exact absurd rfl c_112
            · refine j_iconst (v := nI 0) C dX9_absent_115 (by decide) 116 rfl ?_
              refine j_goto (tgt := 128) C dX9_absent_116 (by decide) ?_
              refine j_iast C rfl (by omega) (by decide) dX9_absent_128 129 rfl ?_
              refine j_aload_n C dX9_absent_129 rfl 130 rfl ?_
              refine gf_X9_36 C rfl rfl dX9_absent_130 133 rfl ?_
              refine j_bipush (v := nI 8) C dX9_absent_133 (by decide) 135 rfl ?_
              refine j_iload_n C dX9_absent_135 rfl 136 rfl ?_
              refine n_imul C dX9_absent_136 137 rfl ?_
              refine j_bipush (v := nI 7) C dX9_absent_137 (by decide) 139 rfl ?_
              refine n_iadd C dX9_absent_139 140 rfl ?_
              refine j_aload_n C dX9_absent_140 rfl 141 rfl ?_
              refine gf_X9_303 C rfl dX9_absent_141 144 rfl ?_
              rw [gl_u2_ne (show (0 : Nat) ≠ 9 by decide), gl_u2_ne (show (0 : Nat) ≠ 9 by decide), c2]
              refine j_iconst (v := -1) C dX9_absent_144 (by decide) 145 rfl ?_
              refine j_icmp_ne C 152 148 dX9_absent_145 (by decide) rfl (fun c_145 => ?_) (fun c_145 => ?_)
              · exact absurd rfl c_145
              · refine j_iconst (v := nI 0) C dX9_absent_148 (by decide) 149 rfl ?_
                refine j_goto (tgt := 153) C dX9_absent_149 (by decide) ?_
                refine j_iast C rfl (by omega) (by decide) dX9_absent_153 154 rfl ?_
                refine j_aload_n C dX9_absent_154 rfl 155 rfl ?_
                refine gf_X9_36 C rfl rfl dX9_absent_155 158 rfl ?_
                refine j_bipush (v := nI 8) C dX9_absent_158 (by decide) 160 rfl ?_
                refine j_iload_n C dX9_absent_160 rfl 161 rfl ?_
                refine n_imul C dX9_absent_161 162 rfl ?_
                refine j_iconst (v := nI 1) C dX9_absent_162 (by decide) 163 rfl ?_
                refine n_iadd C dX9_absent_163 164 rfl ?_
                refine j_iald C rfl (by omega) (by decide) dX9_absent_164 165 rfl ?_
                rw [gl_u2_eq, gl_u2_eq, gl_u2_eq, gl_up_ne (by omega), gl_up_ne (by omega), gl_up_ne (by omega), a2, gl_up_eq]
                exact j_iret C hQ (by rw [gl_absent, if_pos ⟨hok, by rw [hcl, hcm]; exact hin⟩, hcs, hcl, hcm, d2]; exact ⟨rfl, _, rfl, ((q2.u2 (by decide) (by decide)).u2 (by decide) (by decide)).u2 (by decide) (by decide), by rw [gl_u2_eq, gl_u2_eq, gl_u2_eq, a2]; rfl, by rw [gl_u2_ne (show (12 : Nat) ≠ 9 by decide), gl_u2_ne (show (12 : Nat) ≠ 9 by decide), gl_u2_ne (show (12 : Nat) ≠ 9 by decide)]; exact b2, by rw [gl_u2_ne (show (10 : Nat) ≠ 9 by decide), gl_u2_ne (show (10 : Nat) ≠ 9 by decide), gl_u2_ne (show (10 : Nat) ≠ 9 by decide)]; exact c3⟩) (by omega) (by omega) dX9_absent_165
        | w :: ws, c2, d2, hix =>
          have c2 : I2 0 62 = nI w := c2
          have hwb := List.mem_range.mp (hix w (List.mem_cons_self ..))
          refine j_aload_n C dX9_absent_64 rfl 65 rfl ?_
          refine gf_X9_36 C rfl rfl dX9_absent_65 68 rfl ?_
          refine j_bipush (v := nI 8) C dX9_absent_68 (by decide) 70 rfl ?_
          refine j_iload_n C dX9_absent_70 rfl 71 rfl ?_
          refine n_imul C dX9_absent_71 72 rfl ?_
          refine j_iconst (v := nI 5) C dX9_absent_72 (by decide) 73 rfl ?_
          refine n_iadd C dX9_absent_73 74 rfl ?_
          refine j_aload_n C dX9_absent_74 rfl 75 rfl ?_
          refine gf_X9_303 C rfl dX9_absent_75 78 rfl ?_
          rw [c2]
          refine j_iconst (v := -1) C dX9_absent_78 (by decide) 79 rfl ?_
          refine j_icmp_ne C 86 82 dX9_absent_79 (by decide) rfl (fun c_79 => ?_) (fun c_79 => ?_)
          · refine j_aload_n C dX9_absent_86 rfl 87 rfl ?_
            refine gf_X9_154 C rfl rfl dX9_absent_87 90 rfl ?_
            refine j_aload_n C dX9_absent_90 rfl 91 rfl ?_
            refine gf_X9_303 C rfl dX9_absent_91 94 rfl ?_
            rw [c2]
            refine j_iald C rfl (by omega) (by decide) dX9_absent_94 95 rfl ?_
            rw [g48, (m1.1.2 w hwb).2]
            refine j_iast C rfl (by omega) (by decide) dX9_absent_95 96 rfl ?_
            refine j_aload_n C dX9_absent_96 rfl 97 rfl ?_
            refine gf_X9_36 C rfl rfl dX9_absent_97 100 rfl ?_
            refine j_bipush (v := nI 8) C dX9_absent_100 (by decide) 102 rfl ?_
            refine j_iload_n C dX9_absent_102 rfl 103 rfl ?_
            refine n_imul C dX9_absent_103 104 rfl ?_
            refine j_bipush (v := nI 6) C dX9_absent_104 (by decide) 106 rfl ?_
            refine n_iadd C dX9_absent_106 107 rfl ?_
            refine j_aload_n C dX9_absent_107 rfl 108 rfl ?_
            refine gf_X9_303 C rfl dX9_absent_108 111 rfl ?_
            rw [gl_u2_ne (show (0 : Nat) ≠ 9 by decide), c2]
            refine j_iconst (v := -1) C dX9_absent_111 (by decide) 112 rfl ?_
            refine j_icmp_ne C 119 115 dX9_absent_112 (by decide) rfl (fun c_112 => ?_) (fun c_112 => ?_)
            · refine j_aload_n C dX9_absent_119 rfl 120 rfl ?_
              refine gf_X9_151 C rfl rfl dX9_absent_120 123 rfl ?_
              refine j_aload_n C dX9_absent_123 rfl 124 rfl ?_
              refine gf_X9_303 C rfl dX9_absent_124 127 rfl ?_
              rw [gl_u2_ne (show (0 : Nat) ≠ 9 by decide), c2]
              refine j_iald C rfl (by omega) (by decide) dX9_absent_127 128 rfl ?_
              rw [gl_u2_ne (show (47 : Nat) ≠ 9 by decide), g47, (m1.1.2 w hwb).1]
              refine j_iast C rfl (by omega) (by decide) dX9_absent_128 129 rfl ?_
              refine j_aload_n C dX9_absent_129 rfl 130 rfl ?_
              refine gf_X9_36 C rfl rfl dX9_absent_130 133 rfl ?_
              refine j_bipush (v := nI 8) C dX9_absent_133 (by decide) 135 rfl ?_
              refine j_iload_n C dX9_absent_135 rfl 136 rfl ?_
              refine n_imul C dX9_absent_136 137 rfl ?_
              refine j_bipush (v := nI 7) C dX9_absent_137 (by decide) 139 rfl ?_
              refine n_iadd C dX9_absent_139 140 rfl ?_
              refine j_aload_n C dX9_absent_140 rfl 141 rfl ?_
              refine gf_X9_303 C rfl dX9_absent_141 144 rfl ?_
              rw [gl_u2_ne (show (0 : Nat) ≠ 9 by decide), gl_u2_ne (show (0 : Nat) ≠ 9 by decide), c2]
              refine j_iconst (v := -1) C dX9_absent_144 (by decide) 145 rfl ?_
              refine j_icmp_ne C 152 148 dX9_absent_145 (by decide) rfl (fun c_145 => ?_) (fun c_145 => ?_)
              · refine j_iconst (v := nI 1) C dX9_absent_152 (by decide) 153 rfl ?_
                refine j_iast C rfl (by omega) (by decide) dX9_absent_153 154 rfl ?_
                refine j_aload_n C dX9_absent_154 rfl 155 rfl ?_
                refine gf_X9_36 C rfl rfl dX9_absent_155 158 rfl ?_
                refine j_bipush (v := nI 8) C dX9_absent_158 (by decide) 160 rfl ?_
                refine j_iload_n C dX9_absent_160 rfl 161 rfl ?_
                refine n_imul C dX9_absent_161 162 rfl ?_
                refine j_iconst (v := nI 1) C dX9_absent_162 (by decide) 163 rfl ?_
                refine n_iadd C dX9_absent_163 164 rfl ?_
                refine j_iald C rfl (by omega) (by decide) dX9_absent_164 165 rfl ?_
                rw [gl_u2_eq, gl_u2_eq, gl_u2_eq, gl_up_ne (by omega), gl_up_ne (by omega), gl_up_ne (by omega), a2, gl_up_eq]
                exact j_iret C hQ (by rw [gl_absent, if_pos ⟨hok, by rw [hcl, hcm]; exact hin⟩, hcs, hcl, hcm, d2]; exact ⟨rfl, _, rfl, ((q2.u2 (by decide) (by decide)).u2 (by decide) (by decide)).u2 (by decide) (by decide), by rw [gl_u2_eq, gl_u2_eq, gl_u2_eq, a2]; rfl, by rw [gl_u2_ne (show (12 : Nat) ≠ 9 by decide), gl_u2_ne (show (12 : Nat) ≠ 9 by decide), gl_u2_ne (show (12 : Nat) ≠ 9 by decide)]; exact b2, by rw [gl_u2_ne (show (10 : Nat) ≠ 9 by decide), gl_u2_ne (show (10 : Nat) ≠ 9 by decide), gl_u2_ne (show (10 : Nat) ≠ 9 by decide)]; exact c3⟩) (by omega) (by omega) dX9_absent_165
              · exact absurd c_145 (gl_nm1 (by omega))
            · exact absurd c_112 (gl_nm1 (by omega))
          · exact absurd c_79 (gl_nm1 (by omega))
      · exact absurd rfl c_32
    · refine j_iconst (v := -1) C dX9_absent_17 (by decide) 18 rfl ?_
      exact j_iret C hQ (by rw [gl_absent, if_neg (by rw [gl_hok, c_5, c_14]; simp)]; exact ⟨rfl, _, rfl, gl_fq.rf⟩) (by omega) (by omega) dX9_absent_18
