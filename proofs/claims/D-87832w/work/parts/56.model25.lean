/-! MODULE Model, readers: take, talk (by gen56.py) -/
set_option maxRecDepth 100000
/-- the readers' heads: counts, logs -/
def gl_RI (I : Nat → Nat → Int32) (B : Nat → Nat → Bool) (hn hl : Nat → Nat) : Prop := ∀ r, r < 12 → B 14 r = true → I 13 (28 * r) = nI (hn r) ∧ hn r ≤ 400 ∧ I 13 (28 * r + 1) = nI (hl r) ∧ hl r < 6
theorem gl_blm_o {I : Nat → Nat → Int32} {bm c : Nat} {a b : Nat → Int32} (h : c ≠ 15) (h0 : c ≠ 0) : gl_blm I bm a b c = I c := by
  unfold gl_blm
  by_cases hb : bm = 60
  · rw [if_pos hb]
  · rw [if_neg hb, gl_u2_ne h0, gl_up_ne h]
theorem gl_blm_fq {X Y : List Nat} {I J : Nat → Nat → Int32} {bm : Nat} {a b : Nat → Int32} (h : gl_fq X Y I J) (h15 : 15 ∈ X) (h16 : 16 ∈ Y) : gl_fq X Y I (gl_blm J bm a b) := by
  unfold gl_blm
  by_cases hb : bm = 60
  · rw [if_pos hb]; exact h
  · rw [if_neg hb]; exact (h.up h15 (by decide)).sc h16
theorem gl_blm_15 {I J : Nat → Nat → Int32} {bm : Nat} {a b a' b' : Nat → Int32} (h : I 15 = J 15) (ha : a = a') (hb : b = b') : gl_blm I bm a b 15 = gl_blm J bm a' b' 15 := by
  subst ha hb
  unfold gl_blm
  by_cases hb : bm = 60
  · rw [if_pos hb, if_pos hb, h]
  · rw [if_neg hb, if_neg hb, gl_u2_ne (show (15 : Nat) ≠ 0 by decide), gl_u2_ne (show (15 : Nat) ≠ 0 by decide), gl_up_eq, gl_up_eq, h]
def gl_bmS (bm : Nat) : Nat := if bm = 60 then 60 else bm + 1
theorem gl_blm_16 {I : Nat → Nat → Int32} {bm : Nat} {a b : Nat → Int32} (h : I 0 16 = nI bm) : gl_blm I bm a b 0 16 = nI (gl_bmS bm) := by
  unfold gl_blm gl_bmS
  by_cases hb : bm = 60
  · rw [if_pos hb, if_pos hb, h, hb]
  · rw [if_neg hb, if_neg hb, gl_u2_eq, gl_up_eq]
theorem gl_agO_congr {I I' : Nat → Nat → Int32} {L : Nat → Nat → Int64} {lg n0 n1 : Nat} {t0 t1 t0' t1' : Nat → Int32} (h : I 2 = I' 2) (h0 : ∀ t, t < 8 → t0 t = t0' t) (h1 : ∀ t, t < 8 → t1 t = t1' t) : gl_agO I L lg n0 n1 t0 t1 = gl_agO I' L lg n0 n1 t0' t1' := by
  unfold gl_agO
  rw [h, gl_lk_congr (g := t0) (g' := t0') 8 (fun _ _ => rfl) h0, gl_lk_congr (g := t1) (g' := t1') 8 (fun _ _ => rfl) h1]
theorem gl_agree_congr {I I' : Nat → Nat → Int32} {L : Nat → Nat → Int64} {na nb la lb : Nat} {ta ua tb ub ta' ua' tb' ub' : Nat → Int32} (h : I 2 = I' 2) (h1 : ∀ t, t < 8 → ta t = ta' t) (h2 : ∀ t, t < 8 → ua t = ua' t) (h3 : ∀ t, t < 8 → tb t = tb' t) (h4 : ∀ t, t < 8 → ub t = ub' t) : gl_agree I L na nb la lb ta ua tb ub = gl_agree I' L na nb la lb ta' ua' tb' ub' := by
  unfold gl_agree
  rw [gl_lk_congr 8 h1 h3, gl_lk_congr 8 h2 h4, gl_agO_congr h h1 h3, gl_agO_congr h h3 h1]
/-- what a reader's taking does: it blames; nothing; the head is taken -/
def gl_tkO (I I' : Nat → Nat → Int32) (B B' : Nat → Nat → Bool) (bm s : Nat) (A : Nat → Int32) (r : Int32) : Nat → Prop
  | 0 => r = nI 0 ∧ B' = B ∧ I' 13 = va_up (I 13) (28 * s + 3) (I 13 (28 * s + 3) + nI 1) ∧ I' 15 = gl_blm I bm (fun t => I 13 (28 * s + t)) A 15 ∧ I' 0 16 = nI (gl_bmS bm)
  | 1 => r = nI 1 ∧ B' = B ∧ I' 13 = I 13 ∧ I' 15 = I 15 ∧ I' 0 16 = I 0 16
  | _ => r = nI 1 ∧ B' = gl_u2 B 14 s true ∧ I' 13 = gl_cpx A (I 13) (28 * s) false 28 ∧ I' 15 = I 15 ∧ I' 0 16 = I 0 16
def gl_tkN (I : Nat → Nat → Int32) (L : Nat → Nat → Int64) (B : Nat → Nat → Bool) (hn hl : Nat → Nat) (s lg m : Nat) (t u : Nat → Int32) : Nat := if B 14 s = true ∧ I 13 (28 * s + 2) = I 1 (4 * lg) then (if gl_agree I L (hn s) m (hl s) lg (fun k => I 13 (28 * s + 4 + k)) (fun k => I 13 (28 * s + 12 + k)) t u = true then (if m ≤ hn s then 1 else 2) else 0) else 2
def gl_lt (I : Nat → Nat → Int32) (L : Nat → Nat → Int64) (lg m : Nat) : Nat → Int32 := gl_ltop (fun i => I 2 (400 * lg + i)) (fun i => L 3 (400 * lg + i)) m
def gl_take (I : Nat → Nat → Int32) (L : Nat → Nat → Int64) (B : Nat → Nat → Bool) (lm : Nat) (hd ld : Nat → Nat) (sn : Nat → Nat → Nat) (bm : Nat) (hn hl : Nat → Nat) (x y n r : Int32) (S : gl_Sto) : Prop := if gl_in x 12 = true ∧ gl_ic I lm y n = true then (∃ I' B' A, S = (gl_mL, I', L, B', gl_mR) ∧ gl_fq [13, 15, 39, 40, 41, 42, 43, 44, 45, 46, 47, 48, 49, 50, 51, 52, 53, 57] [16, 49, 57] I I' ∧ gl_hdP A n y (I 1 (4 * y.toNatClampNeg)) (A 3) (gl_lt I L y.toNatClampNeg n.toNatClampNeg) (gl_mtree (gl_lmap I B hd ld sn y.toNatClampNeg n.toNatClampNeg)) ∧ gl_tkO I I' B B' bm x.toNatClampNeg A r (gl_tkN I L B hn hl x.toNatClampNeg y.toNatClampNeg n.toNatClampNeg (gl_lt I L y.toNatClampNeg n.toNatClampNeg) (gl_mtree (gl_lmap I B hd ld sn y.toNatClampNeg n.toNatClampNeg)))) else (r = -1 ∧ S = (gl_mL, I, L, B, gl_mR))
set_option maxHeartbeats 4000000 in
set_option maxRecDepth 100000 in
theorem ct_X9_take {l : Launch} {δ : gl_Del} {I : Nat → Nat → Int32} {L : Nat → Nat → Int64} {B : Nat → Nat → Bool} {lm : Nat} {mn hd ld : Nat → Nat} {sn : Nat → Nat → Nat} {bm : Nat} {hn hl : Nat → Nat} {x y n : Int32} (h : Nat) (hh : 271 ≤ h) (H : gl_LI I lm mn hd ld sn) (RI : gl_RI I B hn hl) (hbm : I 0 16 = nI bm) (hb60 : bm ≤ 60) : gl_Ct l δ yX9_take (ws_ yX9_take cX9_take 5 ((some FieldType.int))) (gl_rm h 0 0) 0 0 [.ref 0, .int x, .int y, .int n] (gl_mL, I, L, B, gl_mR) (gl_Qi fun r S => gl_take I L B lm hd ld sn bm hn hl x y n r S) := by
  refine gl_of (by decide) (Nat.le_of_ble_eq_true rfl) rfl ?_
  intro κ C hQ hlκ hδκ hnL hini
  change gl_Cx κ RX9 _ _ _ at C
  have hlm6 : lm ≤ 6 := H.2.1
  refine j_aload_n C dX9_take_0 rfl 1 rfl ?_
  refine j_iload_n C dX9_take_1 rfl 2 rfl ?_
  refine j_ci C (cs_X9_322 C (ct_X9_isReader (h - 1) (by omega)) rfl rfl (by omega) (by omega) (by omega) rfl (Nat.le_of_ble_eq_true rfl) dX9_take_2) 5 rfl ?_
  rintro _ _ ⟨rfl, rfl⟩
  refine b_if_eq C 17 8 dX9_take_5 (by decide) rfl (fun c_5 => ?_) (fun c_5 => ?_)
  · refine j_iconst (v := -1) C dX9_take_17 (by decide) 18 rfl ?_
    exact j_iret C hQ (by rw [gl_take, if_neg (fun q => by rw [c_5] at q; cases q.1)]; exact ⟨rfl, rfl⟩) (by omega) (by omega) dX9_take_18
  · obtain ⟨a, ha, rfl⟩ := (gl_in_iff (by decide)).mp c_5
    have hca : (nI a).toNatClampNeg = a := nI_clamp (by omega)
    refine j_aload_n C dX9_take_8 rfl 9 rfl ?_
    refine j_iload_n C dX9_take_9 rfl 10 rfl ?_
    refine j_iload_n C dX9_take_10 rfl 11 rfl ?_
    refine j_ci C (cs_X9_277 C (ct_X9_isCount (h - 1) (by omega) H.1 H.2.1) rfl rfl (by omega) (by omega) (by omega) rfl (Nat.le_of_ble_eq_true rfl) dX9_take_11) 14 rfl ?_
    rintro _ _ ⟨rfl, rfl⟩
    refine b_if_ne C 19 17 dX9_take_14 (by decide) rfl (fun c_14 => ?_) (fun c_14 => ?_)
    · obtain ⟨lg, m, hlg, hm, rfl, rfl⟩ := (gl_ic_iff H).mp c_14
      have hk := H.2.2 lg hlg
      have hcl : (nI lg).toNatClampNeg = lg := nI_clamp (by omega)
      have hcm : (nI m).toNatClampNeg = m := nI_clamp (by omega)
      refine j_aload_n C dX9_take_19 rfl 20 rfl ?_
      refine j_iload_n C dX9_take_20 rfl 21 rfl ?_
      refine j_iload_n C dX9_take_21 rfl 22 rfl ?_
      refine j_aload_n C dX9_take_22 rfl 23 rfl ?_
      refine gf_X9_169 C rfl rfl dX9_take_23 26 rfl ?_
      refine j_iconst (v := nI 0) C dX9_take_26 (by decide) 27 rfl ?_
      refine j_cv C (cs_X9_285 C (ct_X9_head0 (n := m) (wn := hd lg + ld lg) (sn := sn lg) (h - 1) (by omega) (by omega) (by omega) (H.w hlg) hk.2.2.2.2.1 (fun w hw => (hk.2.2.2.2.2 w hw).1) (fun w hw => by have := (hk.2.2.2.2.2 w hw).2; omega)) rfl rfl (by omega) (by omega) (by omega) rfl (Nat.le_of_ble_eq_true rfl) dX9_take_27) 30 rfl ?_
      rintro _ ⟨I1, rfl, f1, d1⟩
      change gl_hdP (I1 53) (nI m) (nI lg) (I 1 (4 * lg)) (I 53 3) (gl_lt I L lg m) (gl_mtree (gl_lmap I B hd ld sn lg m)) at d1
      have q1 : gl_fq [13, 15, 39, 40, 41, 42, 43, 44, 45, 46, 47, 48, 49, 50, 51, 52, 53, 57] [16, 49, 57] I I1 := f1.mo (by decide) (by decide)
      have g1 : I1 13 = I 13 := f1.1 13 (by decide) (by decide)
      have b1 : I1 15 = I 15 := f1.1 15 (by decide) (by decide)
      have n1 : I1 0 16 = I 0 16 := f1.2 16 (by decide)
      refine j_bipush (v := nI 28) C dX9_take_30 (by decide) 32 rfl ?_
      refine j_iload_n C dX9_take_32 rfl 33 rfl ?_
      refine n_imul C dX9_take_33 34 rfl ?_
      refine j_istore C dX9_take_34 (Nat.le_of_ble_eq_true rfl) (by rw [hnL]; decide) rfl 36 rfl ?_
      refine j_aload_n C dX9_take_36 rfl 37 rfl ?_
      refine gf_X9_52 C rfl rfl dX9_take_37 40 rfl ?_
      refine j_iload_n C dX9_take_40 rfl 41 rfl ?_
      refine j_zald C rfl (by omega) (by decide) dX9_take_41 42 rfl ?_
      refine b_if_eq C 129 45 dX9_take_42 (by decide) rfl (fun c_42 => ?_) (fun c_42 => ?_)
      · refine j_aload_n C dX9_take_129 rfl 130 rfl ?_
        refine gf_X9_169 C rfl rfl dX9_take_130 133 rfl ?_
        refine j_iconst (v := nI 0) C dX9_take_133 (by decide) 134 rfl ?_
        refine j_aload_n C dX9_take_134 rfl 135 rfl ?_
        refine gf_X9_49 C rfl rfl dX9_take_135 138 rfl ?_
        refine j_iload C dX9_take_138 rfl 140 rfl ?_
        refine j_iconst (v := b2i false) C dX9_take_140 (by decide) 141 rfl ?_
        refine j_cv C (cs_X9_339 C (ct_X9_copy (Λ := gl_mL) (R := gl_mR) (I := I1) (x := 53) (nx := 28) (p := 0) (y := 13) (ny := 336) (q := 28 * a) (al := false) (h - 1) (by omega) rfl (by decide) (by decide) rfl (by omega) (by decide) (Or.inl (by decide))) rfl (by omega) (by omega) (by omega) rfl (Nat.le_of_ble_eq_true rfl) dX9_take_141) 144 rfl ?_
        rintro _ rfl
        refine j_aload_n C dX9_take_144 rfl 145 rfl ?_
        refine gf_X9_52 C rfl rfl dX9_take_145 148 rfl ?_
        refine j_iload_n C dX9_take_148 rfl 149 rfl ?_
        refine j_iconst (v := b2i true) C dX9_take_149 (by decide) 150 rfl ?_
        refine j_zast C rfl (by omega) (by decide) dX9_take_150 151 rfl ?_
        refine j_iconst (v := nI 1) C dX9_take_151 (by decide) 152 rfl ?_
        exact j_iret C hQ (by rw [gl_take, if_pos ⟨c_5, c_14⟩, hca, hcl, hcm]; exact ⟨_, _, I1 53, rfl, (q1.up (by decide) (by decide)), ⟨d1.1, d1.2.1, d1.2.2.1, rfl, d1.2.2.2.2.1, d1.2.2.2.2.2.1, d1.2.2.2.2.2.2⟩, by rw [gl_tkN, if_neg (fun q => by rw [c_42] at q; cases q.1)]; exact ⟨rfl, rfl, (by rw [gl_up_eq, g1, show (fun t => I1 53 (0 + t)) = I1 53 from funext fun t => by rw [Nat.zero_add]]), by rw [gl_up_ne (show (15 : Nat) ≠ 13 by decide), b1], by rw [gl_up_ne (show (0 : Nat) ≠ 13 by decide)]; exact n1⟩⟩) (by omega) (by omega) dX9_take_152
      · obtain ⟨h1, h2, h3, h4⟩ := RI a ha c_42
        refine j_aload_n C dX9_take_45 rfl 46 rfl ?_
        refine gf_X9_49 C rfl rfl dX9_take_46 49 rfl ?_
        refine j_iload C dX9_take_49 rfl 51 rfl ?_
        refine j_iconst (v := nI 2) C dX9_take_51 (by decide) 52 rfl ?_
        refine n_iadd C dX9_take_52 53 rfl ?_
        refine j_iald C rfl (by omega) (by decide) dX9_take_53 54 rfl ?_
        rw [g1]
        refine j_aload_n C dX9_take_54 rfl 55 rfl ?_
        refine gf_X9_169 C rfl rfl dX9_take_55 58 rfl ?_
        refine j_iconst (v := nI 2) C dX9_take_58 (by decide) 59 rfl ?_
        refine j_iald C rfl (by omega) (by decide) dX9_take_59 60 rfl ?_
        rw [d1.2.2.1]
        refine j_icmp_ne C 129 63 dX9_take_60 (by decide) rfl (fun c_60 => ?_) (fun c_60 => ?_)
        · refine j_aload_n C dX9_take_129 rfl 130 rfl ?_
          refine gf_X9_169 C rfl rfl dX9_take_130 133 rfl ?_
          refine j_iconst (v := nI 0) C dX9_take_133 (by decide) 134 rfl ?_
          refine j_aload_n C dX9_take_134 rfl 135 rfl ?_
          refine gf_X9_49 C rfl rfl dX9_take_135 138 rfl ?_
          refine j_iload C dX9_take_138 rfl 140 rfl ?_
          refine j_iconst (v := b2i false) C dX9_take_140 (by decide) 141 rfl ?_
          refine j_cv C (cs_X9_339 C (ct_X9_copy (Λ := gl_mL) (R := gl_mR) (I := I1) (x := 53) (nx := 28) (p := 0) (y := 13) (ny := 336) (q := 28 * a) (al := false) (h - 1) (by omega) rfl (by decide) (by decide) rfl (by omega) (by decide) (Or.inl (by decide))) rfl (by omega) (by omega) (by omega) rfl (Nat.le_of_ble_eq_true rfl) dX9_take_141) 144 rfl ?_
          rintro _ rfl
          refine j_aload_n C dX9_take_144 rfl 145 rfl ?_
          refine gf_X9_52 C rfl rfl dX9_take_145 148 rfl ?_
          refine j_iload_n C dX9_take_148 rfl 149 rfl ?_
          refine j_iconst (v := b2i true) C dX9_take_149 (by decide) 150 rfl ?_
          refine j_zast C rfl (by omega) (by decide) dX9_take_150 151 rfl ?_
          refine j_iconst (v := nI 1) C dX9_take_151 (by decide) 152 rfl ?_
          exact j_iret C hQ (by rw [gl_take, if_pos ⟨c_5, c_14⟩, hca, hcl, hcm]; exact ⟨_, _, I1 53, rfl, (q1.up (by decide) (by decide)), ⟨d1.1, d1.2.1, d1.2.2.1, rfl, d1.2.2.2.2.1, d1.2.2.2.2.2.1, d1.2.2.2.2.2.2⟩, by rw [gl_tkN, if_neg (fun q => c_60 q.2)]; exact ⟨rfl, rfl, (by rw [gl_up_eq, g1, show (fun t => I1 53 (0 + t)) = I1 53 from funext fun t => by rw [Nat.zero_add]]), by rw [gl_up_ne (show (15 : Nat) ≠ 13 by decide), b1], by rw [gl_up_ne (show (0 : Nat) ≠ 13 by decide)]; exact n1⟩⟩) (by omega) (by omega) dX9_take_152
        · refine j_aload_n C dX9_take_63 rfl 64 rfl ?_
          refine j_aload_n C dX9_take_64 rfl 65 rfl ?_
          refine gf_X9_49 C rfl rfl dX9_take_65 68 rfl ?_
          refine j_iload C dX9_take_68 rfl 70 rfl ?_
          refine j_aload_n C dX9_take_70 rfl 71 rfl ?_
          refine gf_X9_169 C rfl rfl dX9_take_71 74 rfl ?_
          refine j_iconst (v := nI 0) C dX9_take_74 (by decide) 75 rfl ?_
          refine j_ci C (cs_X9_343 C (ct_X9_agree (I := I1) (x := 13) (y := 53) (nx := 336) (ny := 28) (p := 28 * a) (q := 0) (na := hn a) (nb := m) (la := hl a) (lb := lg) (h - 1) (by omega) rfl (by omega) (by decide) (by decide) rfl (by decide) (by decide) (by decide) (by rw [g1]; exact h1) d1.1 (by rw [g1]; exact h3) d1.2.1 h4 (by omega) h2 (by omega)) rfl rfl (by omega) (by omega) (by omega) rfl (Nat.le_of_ble_eq_true rfl) dX9_take_75) 78 rfl ?_
          rintro _ _ ⟨rfl, I2, rfl, f2⟩
          rw [show gl_agree I1 L (hn a) m (hl a) lg (fun t => I1 13 (28 * a + 4 + t)) (fun t => I1 13 (28 * a + 12 + t)) (fun t => I1 53 (0 + 4 + t)) (fun t => I1 53 (0 + 12 + t)) = (gl_agree I L (hn a) m (hl a) lg (fun k => I 13 (28 * a + 4 + k)) (fun k => I 13 (28 * a + 12 + k)) (gl_lt I L lg m) (gl_mtree (gl_lmap I B hd ld sn lg m))) from gl_agree_congr (f1.1 2 (by decide) (by decide)) (fun t _ => by rw [g1]) (fun t _ => by rw [g1]) (fun t ht => d1.2.2.2.2.1 t ht) (fun t ht => d1.2.2.2.2.2.1 t ht)]
          have q2 : gl_fq [13, 15, 39, 40, 41, 42, 43, 44, 45, 46, 47, 48, 49, 50, 51, 52, 53, 57] [16, 49, 57] I I2 := q1.tr (f2.mo (by decide) (by decide))
          have g2 : I2 13 = I 13 := (f2.1 13 (by decide) (by decide)).trans g1
          have a2 : I2 53 = I1 53 := f2.1 53 (by decide) (by decide)
          have b2 : I2 15 = I 15 := (f2.1 15 (by decide) (by decide)).trans b1
          have n2 : I2 0 16 = I 0 16 := (f2.2 16 (by decide)).trans n1
          refine b_if_ne C 111 81 dX9_take_78 (by decide) rfl (fun c_78 => ?_) (fun c_78 => ?_)
          · refine j_aload_n C dX9_take_111 rfl 112 rfl ?_
            refine gf_X9_169 C rfl rfl dX9_take_112 115 rfl ?_
            refine j_iconst (v := nI 0) C dX9_take_115 (by decide) 116 rfl ?_
            refine j_iald C rfl (by omega) (by decide) dX9_take_116 117 rfl ?_
            rw [a2, d1.1]
            refine j_aload_n C dX9_take_117 rfl 118 rfl ?_
            refine gf_X9_49 C rfl rfl dX9_take_118 121 rfl ?_
            refine j_iload C dX9_take_121 rfl 123 rfl ?_
            refine j_iald C rfl (by omega) (by decide) dX9_take_123 124 rfl ?_
            rw [g2, h1]
            refine n_icmp_gt C 129 127 dX9_take_124 (by decide) rfl (by omega) (by omega) (fun c_124 => ?_) (fun c_124 => ?_)
            · refine j_aload_n C dX9_take_129 rfl 130 rfl ?_
              refine gf_X9_169 C rfl rfl dX9_take_130 133 rfl ?_
              refine j_iconst (v := nI 0) C dX9_take_133 (by decide) 134 rfl ?_
              refine j_aload_n C dX9_take_134 rfl 135 rfl ?_
              refine gf_X9_49 C rfl rfl dX9_take_135 138 rfl ?_
              refine j_iload C dX9_take_138 rfl 140 rfl ?_
              refine j_iconst (v := b2i false) C dX9_take_140 (by decide) 141 rfl ?_
              refine j_cv C (cs_X9_339 C (ct_X9_copy (Λ := gl_mL) (R := gl_mR) (I := I2) (x := 53) (nx := 28) (p := 0) (y := 13) (ny := 336) (q := 28 * a) (al := false) (h - 1) (by omega) rfl (by decide) (by decide) rfl (by omega) (by decide) (Or.inl (by decide))) rfl (by omega) (by omega) (by omega) rfl (Nat.le_of_ble_eq_true rfl) dX9_take_141) 144 rfl ?_
              rintro _ rfl
              refine j_aload_n C dX9_take_144 rfl 145 rfl ?_
              refine gf_X9_52 C rfl rfl dX9_take_145 148 rfl ?_
              refine j_iload_n C dX9_take_148 rfl 149 rfl ?_
              refine j_iconst (v := b2i true) C dX9_take_149 (by decide) 150 rfl ?_
              refine j_zast C rfl (by omega) (by decide) dX9_take_150 151 rfl ?_
              refine j_iconst (v := nI 1) C dX9_take_151 (by decide) 152 rfl ?_
              exact j_iret C hQ (by rw [gl_take, if_pos ⟨c_5, c_14⟩, hca, hcl, hcm]; exact ⟨_, _, I1 53, rfl, (q2.up (by decide) (by decide)), ⟨d1.1, d1.2.1, d1.2.2.1, rfl, d1.2.2.2.2.1, d1.2.2.2.2.2.1, d1.2.2.2.2.2.2⟩, by rw [gl_tkN, if_pos ⟨c_42, c_60⟩, if_pos c_78, if_neg (by omega)]; exact ⟨rfl, rfl, (by rw [gl_up_eq, g2, a2, show (fun t => I1 53 (0 + t)) = I1 53 from funext fun t => by rw [Nat.zero_add]]), by rw [gl_up_ne (show (15 : Nat) ≠ 13 by decide), b2], by rw [gl_up_ne (show (0 : Nat) ≠ 13 by decide)]; exact n2⟩⟩) (by omega) (by omega) dX9_take_152
            · refine j_iconst (v := nI 1) C dX9_take_127 (by decide) 128 rfl ?_
              exact j_iret C hQ (by rw [gl_take, if_pos ⟨c_5, c_14⟩, hca, hcl, hcm]; exact ⟨_, _, I1 53, rfl, q2, ⟨d1.1, d1.2.1, d1.2.2.1, rfl, d1.2.2.2.2.1, d1.2.2.2.2.2.1, d1.2.2.2.2.2.2⟩, by rw [gl_tkN, if_pos ⟨c_42, c_60⟩, if_pos c_78, if_pos (by omega)]; exact ⟨rfl, rfl, g2, b2, n2⟩⟩) (by omega) (by omega) dX9_take_128
          · refine j_aload_n C dX9_take_81 rfl 82 rfl ?_
            refine j_aload_n C dX9_take_82 rfl 83 rfl ?_
            refine gf_X9_49 C rfl rfl dX9_take_83 86 rfl ?_
            refine j_iload C dX9_take_86 rfl 88 rfl ?_
            refine j_aload_n C dX9_take_88 rfl 89 rfl ?_
            refine gf_X9_169 C rfl rfl dX9_take_89 92 rfl ?_
            refine j_iconst (v := nI 0) C dX9_take_92 (by decide) 93 rfl ?_
            refine j_cv C (cs_X9_346 C (ct_X9_blame0 (I := I2) (x := 13) (y := 53) (nx := 336) (ny := 28) (p := 28 * a) (q := 0) (bm := bm) (h - 1) (by omega) rfl (by omega) (by decide) (by decide) rfl (by decide) (by decide) (by decide) (by rw [n2]; exact hbm) hb60) rfl rfl (by omega) (by omega) (by omega) rfl (Nat.le_of_ble_eq_true rfl) dX9_take_93) 96 rfl ?_
            rintro _ rfl
            refine j_aload_n C dX9_take_96 rfl 97 rfl ?_
            refine gf_X9_49 C rfl rfl dX9_take_97 100 rfl ?_
            refine j_iload C dX9_take_100 rfl 102 rfl ?_
            refine j_iconst (v := nI 3) C dX9_take_102 (by decide) 103 rfl ?_
            refine n_iadd C dX9_take_103 104 rfl ?_
            refine j_dup2 C dX9_take_104 rfl rfl 105 rfl ?_
            refine j_iald C rfl (by omega) (by decide) dX9_take_105 106 rfl ?_
            rw [gl_blm_o (by decide) (by decide), g2]
            refine j_iconst (v := nI 1) C dX9_take_106 (by decide) 107 rfl ?_
            refine j_iadd C dX9_take_107 108 rfl ?_
            refine j_iast C rfl (by omega) (by decide) dX9_take_108 109 rfl ?_
            refine j_iconst (v := nI 0) C dX9_take_109 (by decide) 110 rfl ?_
            exact j_iret C hQ (by rw [gl_take, if_pos ⟨c_5, c_14⟩, hca, hcl, hcm]; exact ⟨_, _, I1 53, rfl, ((gl_blm_fq q2 (by decide) (by decide)).u2 (by decide) (by decide)), ⟨d1.1, d1.2.1, d1.2.2.1, rfl, d1.2.2.2.2.1, d1.2.2.2.2.2.1, d1.2.2.2.2.2.2⟩, by rw [gl_tkN, if_pos ⟨c_42, c_60⟩, if_neg (by rw [c_78]; decide)]; exact ⟨rfl, rfl, by rw [gl_u2_eq, gl_blm_o (by decide) (by decide), g2], by rw [gl_u2_ne (show (15 : Nat) ≠ 13 by decide)]; exact gl_blm_15 b2 rfl (funext fun t => by rw [Nat.zero_add, a2]), by rw [gl_u2_ne (show (0 : Nat) ≠ 13 by decide)]; exact gl_blm_16 (n2.trans hbm)⟩⟩) (by omega) (by omega) dX9_take_110
    · refine j_iconst (v := -1) C dX9_take_17 (by decide) 18 rfl ?_
      exact j_iret C hQ (by rw [gl_take, if_neg (fun q => by rw [c_14] at q; cases q.2)]; exact ⟨rfl, rfl⟩) (by omega) (by omega) dX9_take_18
def gl_tlk (I : Nat → Nat → Int32) (L : Nat → Nat → Int64) (hn hl : Nat → Nat) (a b : Nat) : Bool := gl_agree I L (hn a) (hn b) (hl a) (hl b) (fun k => I 13 (28 * a + 4 + k)) (fun k => I 13 (28 * a + 12 + k)) (fun k => I 13 (28 * b + 4 + k)) (fun k => I 13 (28 * b + 12 + k))
def gl_tlO (I I' : Nat → Nat → Int32) (hn : Nat → Nat) (bm a b : Nat) (r : Int32) : Bool → Prop
  | false => r = nI 0 ∧ I' 13 = va_up (va_up (I 13) (28 * a + 3) (I 13 (28 * a + 3) + nI 1)) (28 * b + 3) (I 13 (28 * b + 3) + nI 1) ∧ I' 15 = gl_blm I bm (fun t => I 13 (28 * a + t)) (fun t => I 13 (28 * b + t)) 15 ∧ I' 0 16 = nI (gl_bmS bm)
  | true => r = nI 1 ∧ I' 13 = (if hn a < hn b then gl_cpx (fun t => I 13 (28 * b + t)) (I 13) (28 * a) false 28 else if hn b < hn a then gl_cpx (fun t => I 13 (28 * a + t)) (I 13) (28 * b) false 28 else I 13) ∧ I' 15 = I 15 ∧ I' 0 16 = I 0 16
def gl_talk (I : Nat → Nat → Int32) (L : Nat → Nat → Int64) (B : Nat → Nat → Bool) (bm : Nat) (hn hl : Nat → Nat) (x y r : Int32) (S : gl_Sto) : Prop := if gl_in x 12 = true ∧ gl_in y 12 = true ∧ x.toNatClampNeg ≠ y.toNatClampNeg ∧ B 14 x.toNatClampNeg = true ∧ B 14 y.toNatClampNeg = true ∧ I 13 (28 * x.toNatClampNeg + 2) = I 13 (28 * y.toNatClampNeg + 2) then (∃ I', S = (gl_mL, I', L, B, gl_mR) ∧ gl_fq [13, 15, 39, 40, 41, 42, 43, 44, 45, 46, 57] [16, 49] I I' ∧ gl_tlO I I' hn bm x.toNatClampNeg y.toNatClampNeg r (gl_tlk I L hn hl x.toNatClampNeg y.toNatClampNeg)) else (r = -1 ∧ S = (gl_mL, I, L, B, gl_mR))
set_option maxHeartbeats 4000000 in
set_option maxRecDepth 100000 in
theorem ct_X9_talk {l : Launch} {δ : gl_Del} {I : Nat → Nat → Int32} {L : Nat → Nat → Int64} {B : Nat → Nat → Bool} {bm : Nat} {hn hl : Nat → Nat} {x y : Int32} (h : Nat) (hh : 16 ≤ h) (RI : gl_RI I B hn hl) (hbm : I 0 16 = nI bm) (hb60 : bm ≤ 60) : gl_Ct l δ yX9_talk (ws_ yX9_talk cX9_talk 5 ((some FieldType.int))) (gl_rm h 0 0) 0 0 [.ref 0, .int x, .int y] (gl_mL, I, L, B, gl_mR) (gl_Qi fun r S => gl_talk I L B bm hn hl x y r S) := by
  refine gl_of (by decide) (Nat.le_of_ble_eq_true rfl) rfl ?_
  intro κ C hQ hlκ hδκ hnL hini
  change gl_Cx κ RX9 _ _ _ at C
  refine j_aload_n C dX9_talk_0 rfl 1 rfl ?_
  refine j_iload_n C dX9_talk_1 rfl 2 rfl ?_
  refine j_ci C (cs_X9_322 C (ct_X9_isReader (h - 1) (by omega)) rfl rfl (by omega) (by omega) (by omega) rfl (Nat.le_of_ble_eq_true rfl) dX9_talk_2) 5 rfl ?_
  rintro _ _ ⟨rfl, rfl⟩
  refine b_if_eq C 39 8 dX9_talk_5 (by decide) rfl (fun c_5 => ?_) (fun c_5 => ?_)
  · refine j_iconst (v := -1) C dX9_talk_39 (by decide) 40 rfl ?_
    exact j_iret C hQ (by rw [gl_talk, if_neg (fun q => by rw [c_5] at q; cases q.1)]; exact ⟨rfl, rfl⟩) (by omega) (by omega) dX9_talk_40
  · obtain ⟨a, ha, rfl⟩ := (gl_in_iff (by decide)).mp c_5
    have hca : (nI a).toNatClampNeg = a := nI_clamp (by omega)
    refine j_aload_n C dX9_talk_8 rfl 9 rfl ?_
    refine j_iload_n C dX9_talk_9 rfl 10 rfl ?_
    refine j_ci C (cs_X9_322 C (ct_X9_isReader (h - 1) (by omega)) rfl rfl (by omega) (by omega) (by omega) rfl (Nat.le_of_ble_eq_true rfl) dX9_talk_10) 13 rfl ?_
    rintro _ _ ⟨rfl, rfl⟩
    refine b_if_eq C 39 16 dX9_talk_13 (by decide) rfl (fun c_13 => ?_) (fun c_13 => ?_)
    · refine j_iconst (v := -1) C dX9_talk_39 (by decide) 40 rfl ?_
      exact j_iret C hQ (by rw [gl_talk, if_neg (fun q => by rw [c_13] at q; cases q.2.1)]; exact ⟨rfl, rfl⟩) (by omega) (by omega) dX9_talk_40
    · obtain ⟨b, hb, rfl⟩ := (gl_in_iff (by decide)).mp c_13
      have hcb : (nI b).toNatClampNeg = b := nI_clamp (by omega)
      refine j_iload_n C dX9_talk_16 rfl 17 rfl ?_
      refine j_iload_n C dX9_talk_17 rfl 18 rfl ?_
      refine n_icmp_eq C 39 21 dX9_talk_18 (by decide) rfl (by omega) (by omega) (fun c_18 => ?_) (fun c_18 => ?_)
      · refine j_iconst (v := -1) C dX9_talk_39 (by decide) 40 rfl ?_
        exact j_iret C hQ (by rw [gl_talk, if_neg (fun q => by rw [hca, hcb] at q; exact q.2.2.1 c_18)]; exact ⟨rfl, rfl⟩) (by omega) (by omega) dX9_talk_40
      · refine j_aload_n C dX9_talk_21 rfl 22 rfl ?_
        refine gf_X9_52 C rfl rfl dX9_talk_22 25 rfl ?_
        refine j_iload_n C dX9_talk_25 rfl 26 rfl ?_
        refine j_zald C rfl (by omega) (by decide) dX9_talk_26 27 rfl ?_
        refine b_if_eq C 39 30 dX9_talk_27 (by decide) rfl (fun c_27 => ?_) (fun c_27 => ?_)
        · refine j_iconst (v := -1) C dX9_talk_39 (by decide) 40 rfl ?_
          exact j_iret C hQ (by rw [gl_talk, if_neg (fun q => by rw [hca, c_27] at q; cases q.2.2.2.1)]; exact ⟨rfl, rfl⟩) (by omega) (by omega) dX9_talk_40
        · obtain ⟨h1, h2, h3, h4⟩ := RI a ha c_27
          refine j_aload_n C dX9_talk_30 rfl 31 rfl ?_
          refine gf_X9_52 C rfl rfl dX9_talk_31 34 rfl ?_
          refine j_iload_n C dX9_talk_34 rfl 35 rfl ?_
          refine j_zald C rfl (by omega) (by decide) dX9_talk_35 36 rfl ?_
          refine b_if_ne C 41 39 dX9_talk_36 (by decide) rfl (fun c_36 => ?_) (fun c_36 => ?_)
          · obtain ⟨i1, i2, i3, i4⟩ := RI b hb c_36
            refine j_bipush (v := nI 28) C dX9_talk_41 (by decide) 43 rfl ?_
            refine j_iload_n C dX9_talk_43 rfl 44 rfl ?_
            refine n_imul C dX9_talk_44 45 rfl ?_
            refine j_istore_n C dX9_talk_45 (Nat.le_of_ble_eq_true rfl) (by rw [hnL]; decide) rfl 46 rfl ?_
            refine j_bipush (v := nI 28) C dX9_talk_46 (by decide) 48 rfl ?_
            refine j_iload_n C dX9_talk_48 rfl 49 rfl ?_
            refine n_imul C dX9_talk_49 50 rfl ?_
            refine j_istore C dX9_talk_50 (Nat.le_of_ble_eq_true rfl) (by rw [hnL]; decide) rfl 52 rfl ?_
            refine j_aload_n C dX9_talk_52 rfl 53 rfl ?_
            refine gf_X9_49 C rfl rfl dX9_talk_53 56 rfl ?_
            refine j_iload_n C dX9_talk_56 rfl 57 rfl ?_
            refine j_iconst (v := nI 2) C dX9_talk_57 (by decide) 58 rfl ?_
            refine n_iadd C dX9_talk_58 59 rfl ?_
            refine j_iald C rfl (by omega) (by decide) dX9_talk_59 60 rfl ?_
            refine j_aload_n C dX9_talk_60 rfl 61 rfl ?_
            refine gf_X9_49 C rfl rfl dX9_talk_61 64 rfl ?_
            refine j_iload C dX9_talk_64 rfl 66 rfl ?_
            refine j_iconst (v := nI 2) C dX9_talk_66 (by decide) 67 rfl ?_
            refine n_iadd C dX9_talk_67 68 rfl ?_
            refine j_iald C rfl (by omega) (by decide) dX9_talk_68 69 rfl ?_
            refine j_icmp_eq C 74 72 dX9_talk_69 (by decide) rfl (fun c_69 => ?_) (fun c_69 => ?_)
            · refine j_aload_n C dX9_talk_74 rfl 75 rfl ?_
              refine j_aload_n C dX9_talk_75 rfl 76 rfl ?_
              refine gf_X9_49 C rfl rfl dX9_talk_76 79 rfl ?_
              refine j_iload_n C dX9_talk_79 rfl 80 rfl ?_
              refine j_aload_n C dX9_talk_80 rfl 81 rfl ?_
              refine gf_X9_49 C rfl rfl dX9_talk_81 84 rfl ?_
              refine j_iload C dX9_talk_84 rfl 86 rfl ?_
              refine j_ci C (cs_X9_343 C (ct_X9_agree (I := I) (x := 13) (y := 13) (nx := 336) (ny := 336) (p := 28 * a) (q := 28 * b) (na := hn a) (nb := hn b) (la := hl a) (lb := hl b) (h - 1) (by omega) rfl (by omega) (by decide) (by decide) rfl (by omega) (by decide) (by decide) h1 i1 h3 i3 h4 i4 h2 i2) rfl rfl (by omega) (by omega) (by omega) rfl (Nat.le_of_ble_eq_true rfl) dX9_talk_86) 89 rfl ?_
              rintro _ _ ⟨rfl, I2, rfl, f2⟩
              have q2 : gl_fq [13, 15, 39, 40, 41, 42, 43, 44, 45, 46, 57] [16, 49] I I2 := f2.mo (by decide) (by decide)
              have g2 : I2 13 = I 13 := f2.1 13 (by decide) (by decide)
              have b2 : I2 15 = I 15 := f2.1 15 (by decide) (by decide)
              have n2 : I2 0 16 = I 0 16 := f2.2 16 (by decide)
              refine b_if_ne C 134 92 dX9_talk_89 (by decide) rfl (fun c_89 => ?_) (fun c_89 => ?_)
              · refine j_aload_n C dX9_talk_134 rfl 135 rfl ?_
                refine gf_X9_49 C rfl rfl dX9_talk_135 138 rfl ?_
                refine j_iload_n C dX9_talk_138 rfl 139 rfl ?_
                refine j_iald C rfl (by omega) (by decide) dX9_talk_139 140 rfl ?_
                rw [g2, h1]
                refine j_aload_n C dX9_talk_140 rfl 141 rfl ?_
                refine gf_X9_49 C rfl rfl dX9_talk_141 144 rfl ?_
                refine j_iload C dX9_talk_144 rfl 146 rfl ?_
                refine j_iald C rfl (by omega) (by decide) dX9_talk_146 147 rfl ?_
                rw [g2, i1]
                refine n_icmp_ge C 168 150 dX9_talk_147 (by decide) rfl (by omega) (by omega) (fun c_147 => ?_) (fun c_147 => ?_)
                · refine j_aload_n C dX9_talk_168 rfl 169 rfl ?_
                  refine gf_X9_49 C rfl rfl dX9_talk_169 172 rfl ?_
                  refine j_iload C dX9_talk_172 rfl 174 rfl ?_
                  refine j_iald C rfl (by omega) (by decide) dX9_talk_174 175 rfl ?_
                  rw [g2, i1]
                  refine j_aload_n C dX9_talk_175 rfl 176 rfl ?_
                  refine gf_X9_49 C rfl rfl dX9_talk_176 179 rfl ?_
                  refine j_iload_n C dX9_talk_179 rfl 180 rfl ?_
                  refine j_iald C rfl (by omega) (by decide) dX9_talk_180 181 rfl ?_
                  rw [g2, h1]
                  refine n_icmp_ge C 199 184 dX9_talk_181 (by decide) rfl (by omega) (by omega) (fun c_181 => ?_) (fun c_181 => ?_)
                  · refine j_iconst (v := nI 1) C dX9_talk_199 (by decide) 200 rfl ?_
                    exact j_iret C hQ (by rw [gl_talk, if_pos ⟨c_5, c_13, by rw [hca, hcb]; exact c_18, by rw [hca]; exact c_27, by rw [hcb]; exact c_36, by rw [hca, hcb]; exact c_69⟩, hca, hcb]; exact ⟨_, rfl, q2, by rw [show gl_tlk I L hn hl a b = true from c_89]; exact ⟨rfl, by rw [if_neg (by omega), if_neg (by omega), g2], b2, n2⟩⟩) (by omega) (by omega) dX9_talk_200
                  · refine j_aload_n C dX9_talk_184 rfl 185 rfl ?_
                    refine gf_X9_49 C rfl rfl dX9_talk_185 188 rfl ?_
                    refine j_iload_n C dX9_talk_188 rfl 189 rfl ?_
                    refine j_aload_n C dX9_talk_189 rfl 190 rfl ?_
                    refine gf_X9_49 C rfl rfl dX9_talk_190 193 rfl ?_
                    refine j_iload C dX9_talk_193 rfl 195 rfl ?_
                    refine j_iconst (v := b2i false) C dX9_talk_195 (by decide) 196 rfl ?_
                    refine j_cv C (cs_X9_339 C (ct_X9_copy (Λ := gl_mL) (R := gl_mR) (I := I2) (x := 13) (nx := 336) (p := 28 * a) (y := 13) (ny := 336) (q := 28 * b) (al := false) (h - 1) (by omega) rfl (by omega) (by decide) rfl (by omega) (by decide) (Or.inr (by omega))) rfl (by omega) (by omega) (by omega) rfl (Nat.le_of_ble_eq_true rfl) dX9_talk_196) 199 rfl ?_
                    rintro _ rfl
                    refine j_iconst (v := nI 1) C dX9_talk_199 (by decide) 200 rfl ?_
                    exact j_iret C hQ (by rw [gl_talk, if_pos ⟨c_5, c_13, by rw [hca, hcb]; exact c_18, by rw [hca]; exact c_27, by rw [hcb]; exact c_36, by rw [hca, hcb]; exact c_69⟩, hca, hcb]; exact ⟨_, rfl, (q2.up (by decide) (by decide)), by rw [show gl_tlk I L hn hl a b = true from c_89]; exact ⟨rfl, by rw [gl_up_eq, if_neg (by omega), if_pos (by omega), g2], by rw [gl_up_ne (show (15 : Nat) ≠ 13 by decide), b2], by rw [gl_up_ne (show (0 : Nat) ≠ 13 by decide)]; exact n2⟩⟩) (by omega) (by omega) dX9_talk_200
                · refine j_aload_n C dX9_talk_150 rfl 151 rfl ?_
                  refine gf_X9_49 C rfl rfl dX9_talk_151 154 rfl ?_
                  refine j_iload C dX9_talk_154 rfl 156 rfl ?_
                  refine j_aload_n C dX9_talk_156 rfl 157 rfl ?_
                  refine gf_X9_49 C rfl rfl dX9_talk_157 160 rfl ?_
                  refine j_iload_n C dX9_talk_160 rfl 161 rfl ?_
                  refine j_iconst (v := b2i false) C dX9_talk_161 (by decide) 162 rfl ?_
                  refine j_cv C (cs_X9_339 C (ct_X9_copy (Λ := gl_mL) (R := gl_mR) (I := I2) (x := 13) (nx := 336) (p := 28 * b) (y := 13) (ny := 336) (q := 28 * a) (al := false) (h - 1) (by omega) rfl (by omega) (by decide) rfl (by omega) (by decide) (Or.inr (by omega))) rfl (by omega) (by omega) (by omega) rfl (Nat.le_of_ble_eq_true rfl) dX9_talk_162) 165 rfl ?_
                  rintro _ rfl
                  refine j_goto (tgt := 199) C dX9_talk_165 (by decide) ?_
                  refine j_iconst (v := nI 1) C dX9_talk_199 (by decide) 200 rfl ?_
                  exact j_iret C hQ (by rw [gl_talk, if_pos ⟨c_5, c_13, by rw [hca, hcb]; exact c_18, by rw [hca]; exact c_27, by rw [hcb]; exact c_36, by rw [hca, hcb]; exact c_69⟩, hca, hcb]; exact ⟨_, rfl, (q2.up (by decide) (by decide)), by rw [show gl_tlk I L hn hl a b = true from c_89]; exact ⟨rfl, by rw [gl_up_eq, if_pos (by omega), g2], by rw [gl_up_ne (show (15 : Nat) ≠ 13 by decide), b2], by rw [gl_up_ne (show (0 : Nat) ≠ 13 by decide)]; exact n2⟩⟩) (by omega) (by omega) dX9_talk_200
              · refine j_aload_n C dX9_talk_92 rfl 93 rfl ?_
                refine j_aload_n C dX9_talk_93 rfl 94 rfl ?_
                refine gf_X9_49 C rfl rfl dX9_talk_94 97 rfl ?_
                refine j_iload_n C dX9_talk_97 rfl 98 rfl ?_
                refine j_aload_n C dX9_talk_98 rfl 99 rfl ?_
                refine gf_X9_49 C rfl rfl dX9_talk_99 102 rfl ?_
                refine j_iload C dX9_talk_102 rfl 104 rfl ?_
                refine j_cv C (cs_X9_346 C (ct_X9_blame0 (I := I2) (x := 13) (y := 13) (nx := 336) (ny := 336) (p := 28 * a) (q := 28 * b) (bm := bm) (h - 1) (by omega) rfl (by omega) (by decide) (by decide) rfl (by omega) (by decide) (by decide) (by rw [n2]; exact hbm) hb60) rfl rfl (by omega) (by omega) (by omega) rfl (Nat.le_of_ble_eq_true rfl) dX9_talk_104) 107 rfl ?_
                rintro _ rfl
                rw [g2]
                refine j_aload_n C dX9_talk_107 rfl 108 rfl ?_
                refine gf_X9_49 C rfl rfl dX9_talk_108 111 rfl ?_
                refine j_iload_n C dX9_talk_111 rfl 112 rfl ?_
                refine j_iconst (v := nI 3) C dX9_talk_112 (by decide) 113 rfl ?_
                refine n_iadd C dX9_talk_113 114 rfl ?_
                refine j_dup2 C dX9_talk_114 rfl rfl 115 rfl ?_
                refine j_iald C rfl (by omega) (by decide) dX9_talk_115 116 rfl ?_
                rw [gl_blm_o (by decide) (by decide), g2]
                refine j_iconst (v := nI 1) C dX9_talk_116 (by decide) 117 rfl ?_
                refine j_iadd C dX9_talk_117 118 rfl ?_
                refine j_iast C rfl (by omega) (by decide) dX9_talk_118 119 rfl ?_
                refine j_aload_n C dX9_talk_119 rfl 120 rfl ?_
                refine gf_X9_49 C rfl rfl dX9_talk_120 123 rfl ?_
                refine j_iload C dX9_talk_123 rfl 125 rfl ?_
                refine j_iconst (v := nI 3) C dX9_talk_125 (by decide) 126 rfl ?_
                refine n_iadd C dX9_talk_126 127 rfl ?_
                refine j_dup2 C dX9_talk_127 rfl rfl 128 rfl ?_
                refine j_iald C rfl (by omega) (by decide) dX9_talk_128 129 rfl ?_
                rw [gl_u2_eq, gl_blm_o (by decide) (by decide), g2, gl_up_ne (show 28 * b + 3 ≠ 28 * a + 3 by omega)]
                refine j_iconst (v := nI 1) C dX9_talk_129 (by decide) 130 rfl ?_
                refine j_iadd C dX9_talk_130 131 rfl ?_
                refine j_iast C rfl (by omega) (by decide) dX9_talk_131 132 rfl ?_
                refine j_iconst (v := nI 0) C dX9_talk_132 (by decide) 133 rfl ?_
                exact j_iret C hQ (by rw [gl_talk, if_pos ⟨c_5, c_13, by rw [hca, hcb]; exact c_18, by rw [hca]; exact c_27, by rw [hcb]; exact c_36, by rw [hca, hcb]; exact c_69⟩, hca, hcb]; exact ⟨_, rfl, (((gl_blm_fq q2 (by decide) (by decide)).u2 (by decide) (by decide)).u2 (by decide) (by decide)), by rw [show gl_tlk I L hn hl a b = false from c_89]; exact ⟨rfl, by rw [gl_u2_eq, gl_u2_eq, gl_blm_o (by decide) (by decide), g2], by rw [gl_u2_ne (show (15 : Nat) ≠ 13 by decide), gl_u2_ne (show (15 : Nat) ≠ 13 by decide)]; exact gl_blm_15 b2 rfl rfl, by rw [gl_u2_ne (show (0 : Nat) ≠ 13 by decide), gl_u2_ne (show (0 : Nat) ≠ 13 by decide)]; exact gl_blm_16 (n2.trans hbm)⟩⟩) (by omega) (by omega) dX9_talk_133
            · refine j_iconst (v := -1) C dX9_talk_72 (by decide) 73 rfl ?_
              exact j_iret C hQ (by rw [gl_talk, if_neg (fun q => by rw [hca, hcb] at q; exact c_69 q.2.2.2.2.2)]; exact ⟨rfl, rfl⟩) (by omega) (by omega) dX9_talk_73
          · refine j_iconst (v := -1) C dX9_talk_39 (by decide) 40 rfl ?_
            exact j_iret C hQ (by rw [gl_talk, if_neg (fun q => by rw [hcb, c_36] at q; cases q.2.2.2.2.1)]; exact ⟨rfl, rfl⟩) (by omega) (by omega) dX9_talk_40
