/-! MODULE GlassLog, watchers: watcher, watching, watch; all (by gen84.py) -/
set_option maxRecDepth 100000
/-- a watcher's rows hold what it read -/
def gl_wq (I : Nat → Nat → Int32) (t : Nat) (W : gl_Mp) : Prop := I t 6 = nI W.length ∧ ∀ i, i < W.length → I (t + 1) i = (gl_at W i).1 ∧ I (t + 2) i = nI (gl_at W i).2
theorem gl_wq.fk {I : Nat → Nat → Int32} {t : Nat} {W : gl_Mp} (h : gl_wq I t W) (ky : Int32) : gl_ff (I (t + 1)) ky W.length 0 = gl_fk W ky := gl_ff_congr _ _ (fun i _ hi => (h.2 i (by omega)).1)
theorem gl_fk_le (m : gl_Mp) (ky : Int32) : gl_fk m ky ≤ m.length := by
  have := gl_ff_le (f := fun t => (gl_at m t).1) (key := ky) m.length 0
  unfold gl_fk
  omega
theorem gl_wq.reads {I : Nat → Nat → Int32} {t i : Nat} {W : gl_Mp} {ky : Int32} (h : gl_wq I t W) : gl_wq (gl_u2 (gl_u2 (gl_u2 I (t + 1) (gl_fk W ky) ky) (t + 2) (gl_fk W ky) (nI i)) t 6 (nI (max W.length (gl_fk W ky + 1)))) t (gl_mi W ky i) := by
  have hle := gl_fk_le W ky
  have e1 : ∀ J : Nat → Nat → Int32, ∀ v : Int32, gl_u2 J t 6 v (t + 1) = J (t + 1) := fun J v => gl_u2_ne (by omega)
  have e2 : ∀ J : Nat → Nat → Int32, ∀ v : Int32, gl_u2 J t 6 v (t + 2) = J (t + 2) := fun J v => gl_u2_ne (by omega)
  unfold gl_mi
  by_cases hq : gl_fk W ky < W.length
  · rw [if_pos hq]
    refine ⟨?_, fun j hj => ?_⟩
    · rw [gl_u2_eq, gl_up_eq, List.length_set, Nat.max_eq_left (by omega)]
    · rw [List.length_set] at hj
      rw [e1, e2, gl_u2_ne (show t + 1 ≠ t + 2 by omega), gl_u2_eq, gl_u2_eq, gl_u2_ne (show t + 2 ≠ t + 1 by omega), gl_at_set hq]
      by_cases hjk : j = gl_fk W ky
      · subst hjk
        rw [gl_up_eq, gl_up_eq, if_pos rfl]
        exact ⟨rfl, rfl⟩
      · rw [gl_up_ne hjk, gl_up_ne hjk, if_neg hjk]
        exact h.2 j hj
  · rw [if_neg hq]
    have hk : gl_fk W ky = W.length := by omega
    rw [hk]
    refine ⟨?_, fun j hj => ?_⟩
    · rw [gl_u2_eq, gl_up_eq, List.length_append, Nat.max_eq_right (by omega)]; rfl
    · rw [List.length_append] at hj
      have hj : j < W.length + 1 := hj
      rw [e1, e2, gl_u2_ne (show t + 1 ≠ t + 2 by omega), gl_u2_eq, gl_u2_eq, gl_u2_ne (show t + 2 ≠ t + 1 by omega), gl_at_app]
      by_cases hjk : j = W.length
      · subst hjk
        rw [gl_up_eq, gl_up_eq, if_pos rfl]
        exact ⟨rfl, rfl⟩
      · rw [gl_up_ne hjk, gl_up_ne hjk, if_neg hjk]
        exact h.2 j (by omega)
theorem gl_wq.of_eq {I I' : Nat → Nat → Int32} {t : Nat} {W : gl_Mp} (h : gl_wq I t W) (h0 : I' t 6 = I t 6) (h1 : I' (t + 1) = I (t + 1)) (h2 : I' (t + 2) = I (t + 2)) : gl_wq I' t W := by
  unfold gl_wq
  rw [h0, h1, h2]
  exact h
/-- how many of those read are not the latest -/
def gl_gwc (lat : Int32 → Int32) (W : gl_Mp) : Nat → Nat
  | 0 => 0
  | k + 1 => if lat (gl_at W k).1 = nI (gl_at W k).2 then gl_gwc lat W k else gl_gwc lat W k + 1
theorem gl_gwc_le {lat : Int32 → Int32} {W : gl_Mp} : ∀ k, gl_gwc lat W k ≤ k
  | 0 => Nat.le_refl _
  | k + 1 => by
    have := gl_gwc_le (lat := lat) (W := W) k
    unfold gl_gwc
    by_cases h : lat (gl_at W k).1 = nI (gl_at W k).2
    · rw [if_pos h]; omega
    · rw [if_neg h]; omega
/-- the numbers of the watchers -/
def gl_gW (I : Nat → Nat → Int32) (B : Nat → Nat → Bool) (lm : Nat) (mn wl wg : Nat → Nat) (ws : Nat → gl_Mp) : Prop := ∀ k, k < 8 → B (1 + 665 + 3 * k) 7 = true → I (1 + 665 + 3 * k) 2 = nI (wl k) ∧ wl k < lm ∧ I (1 + 665 + 3 * k) 5 = nI (wg k) ∧ wg k ≤ mn (wl k) ∧ gl_wq I (1 + 665 + 3 * k) (ws k) ∧ (ws k).length ≤ wg k ∧ ∀ i, i < (ws k).length → (gl_at (ws k) i).2 < 400
theorem gl_mi_len2 {m : gl_Mp} {ky : Int32} {i : Nat} : (gl_mi m ky i).length ≤ m.length + 1 := gl_mi_len
set_option maxHeartbeats 4000000 in
set_option maxRecDepth 100000 in
theorem ct_X0_watcher {l : Launch} {δ : gl_Del} {Λ : gl_Lay} {I : Nat → Nat → Int32} {L : Nat → Nat → Int64} {B : Nat → Nat → Bool} {R : Nat → Nat → Option Nat} {lm : Nat} {mn wn : Nat → Nat} {sn : Nat → Nat → Nat} {x y lo_ hi_ : Int32} (h : Nat) (hh : 3 ≤ h) (hG : gl_GL Λ R) (H : gl_gL I 1 lm mn wn sn) : gl_Ct l δ yX0_watcher (ws_ yX0_watcher cX0_watcher 6 ((some FieldType.boolean))) (gl_rm h 0 0) 0 0 [.ref 0, .int x, .int y, .int lo_, .int hi_] (Λ, I, L, B, R) (gl_Qi fun r S => r = b2i (decide (gl_in x 8 = true ∧ gl_in y lm = true)) ∧ S = if (gl_in x 8 = true ∧ gl_in y lm = true) then (Λ, gl_u2 (gl_u2 (gl_u2 (gl_u2 (gl_u2 I (1 + 665 + 3 * x.toNatClampNeg) 2 y) (1 + 665 + 3 * x.toNatClampNeg) 3 lo_) (1 + 665 + 3 * x.toNatClampNeg) 4 hi_) (1 + 665 + 3 * x.toNatClampNeg) 5 (nI 0)) (1 + 665 + 3 * x.toNatClampNeg) 6 (nI 0), L, gl_u2 B (1 + 665 + 3 * x.toNatClampNeg) 7 true, R) else (Λ, I, L, B, R)) := by
  refine gl_of (by decide) (Nat.le_of_ble_eq_true rfl) rfl ?_
  intro κ C hQ hlκ hδκ hnL hini
  change gl_Cx κ RX0 _ _ _ at C
  refine j_iload_n C dX0_watcher_0 rfl 1 rfl ?_
  refine j_i2l C dX0_watcher_1 rfl 2 rfl ?_
  refine j_lconst (v := lN 0) C dX0_watcher_2 (by decide) 3 rfl ?_
  refine j_ldc2 C q518 dX0_watcher_3 6 rfl ?_
  rw [show (7 : Int64) = lN 7 from rfl]
  refine j_ci C (cs_X0_57 C (ct_X0_in (h - 1) (by omega)) rfl (by omega) (by omega) (by omega) rfl (Nat.le_of_ble_eq_true rfl) dX0_watcher_6) 9 rfl ?_
  rintro _ _ ⟨rfl, rfl⟩
  rw [gl_il_c (n := 7) (by decide), show 7 + 1 = 8 from rfl]
  refine b_if_eq C 20 12 dX0_watcher_9 (by decide) rfl (fun c_9 => ?_) (fun c_9 => ?_)
  · refine j_iconst (v := b2i false) C dX0_watcher_20 (by decide) 21 rfl ?_
    exact j_zret C hQ ⟨by rw [decide_eq_false (fun q => by rw [c_9] at q; exact absurd q.1 (by decide))], by rw [if_neg (fun q => by rw [c_9] at q; exact absurd q.1 (by decide))]⟩ (by omega) (by omega) dX0_watcher_21
  · refine j_aload_n C dX0_watcher_12 rfl 13 rfl ?_
    refine j_iload_n C dX0_watcher_13 rfl 14 rfl ?_
    refine j_ci C (cs_X0_61 C (ct_X0_isLog (h - 1) (by omega) hG H) hG.o rfl (by omega) (by omega) (by omega) rfl (Nat.le_of_ble_eq_true rfl) dX0_watcher_14) 17 rfl ?_
    rintro _ _ ⟨rfl, rfl⟩
    refine b_if_ne C 22 20 dX0_watcher_17 (by decide) rfl (fun c_17 => ?_) (fun c_17 => ?_)
    · obtain ⟨k, hk_, rfl⟩ := (gl_in_iff (by decide)).mp c_9
      have hT := hG.hs.wt k hk_
      have hck : (nI k).toNatClampNeg = k := nI_clamp (by omega)
      refine j_aload_n C dX0_watcher_22 rfl 23 rfl ?_
      refine gf_X0_12 C hG.o hG.r0 dX0_watcher_23 26 rfl ?_
      refine gf_X0_340 C hG.hs.o hG.hs.r4 dX0_watcher_26 29 rfl ?_
      refine j_iload_n C dX0_watcher_29 rfl 30 rfl ?_
      refine j_aald C (by decide) hG.hs.k5 (by omega) (by decide) dX0_watcher_30 31 rfl ?_
      rw [hG.hs.wr k (by omega)]
      change gl_J _ _ _ _ _ _ (Value.ref _ :: _)
      refine j_astore C dX0_watcher_31 (Nat.le_of_ble_eq_true rfl) (by rw [hnL]; decide) rfl 33 rfl ?_
      refine j_aload C dX0_watcher_33 rfl 35 rfl ?_
      refine j_iconst (v := b2i true) C dX0_watcher_35 (by decide) 36 rfl ?_
      refine pf_X0_344 C hT.o dX0_watcher_36 39 rfl ?_
      refine j_aload C dX0_watcher_39 rfl 41 rfl ?_
      refine j_iload_n C dX0_watcher_41 rfl 42 rfl ?_
      refine pf_X0_347 C hT.o dX0_watcher_42 45 rfl ?_
      refine j_aload C dX0_watcher_45 rfl 47 rfl ?_
      refine j_iload_n C dX0_watcher_47 rfl 48 rfl ?_
      refine pf_X0_348 C hT.o dX0_watcher_48 51 rfl ?_
      refine j_aload C dX0_watcher_51 rfl 53 rfl ?_
      refine j_iload C dX0_watcher_53 rfl 55 rfl ?_
      refine pf_X0_351 C hT.o dX0_watcher_55 58 rfl ?_
      refine j_aload C dX0_watcher_58 rfl 60 rfl ?_
      refine j_iconst (v := nI 0) C dX0_watcher_60 (by decide) 61 rfl ?_
      refine pf_X0_354 C hT.o dX0_watcher_61 64 rfl ?_
      refine j_aload C dX0_watcher_64 rfl 66 rfl ?_
      refine j_iconst (v := nI 0) C dX0_watcher_66 (by decide) 67 rfl ?_
      refine pf_X0_356 C hT.o dX0_watcher_67 70 rfl ?_
      refine j_iconst (v := b2i true) C dX0_watcher_70 (by decide) 71 rfl ?_
      exact j_zret C hQ ⟨by rw [decide_eq_true ⟨c_9, c_17⟩], by rw [if_pos ⟨c_9, c_17⟩, hck]⟩ (by omega) (by omega) dX0_watcher_71
    · refine j_iconst (v := b2i false) C dX0_watcher_20 (by decide) 21 rfl ?_
      exact j_zret C hQ ⟨by rw [decide_eq_false (fun q => by rw [c_17] at q; exact absurd q.2 (by decide))], by rw [if_neg (fun q => by rw [c_17] at q; exact absurd q.2 (by decide))]⟩ (by omega) (by omega) dX0_watcher_21
set_option maxHeartbeats 4000000 in
set_option maxRecDepth 100000 in
theorem ct_X0_watching {l : Launch} {δ : gl_Del} {Λ : gl_Lay} {I : Nat → Nat → Int32} {L : Nat → Nat → Int64} {B : Nat → Nat → Bool} {R : Nat → Nat → Option Nat} {x w : Int32} (h : Nat) (hh : 2 ≤ h) (hG : gl_GL Λ R) : gl_Ct l δ yX0_watching (ws_ yX0_watching cX0_watching 3 ((some FieldType.int))) (gl_rm h 0 0) 0 0 [.ref 0, .int x, .int w] (Λ, I, L, B, R) (gl_Qi fun r S => r = (if (gl_in x 8 = true ∧ B (1 + 665 + 3 * x.toNatClampNeg) 7 = true) then (if w = nI 0 then I (1 + 665 + 3 * x.toNatClampNeg) 5 else if w = nI 1 then I (1 + 665 + 3 * x.toNatClampNeg) 6 else if w = nI 2 then I (1 + 665 + 3 * x.toNatClampNeg) 2 else -1) else -1) ∧ S = (Λ, I, L, B, R)) := by
  refine gl_of (by decide) (Nat.le_of_ble_eq_true rfl) rfl ?_
  intro κ C hQ hlκ hδκ hnL hini
  change gl_Cx κ RX0 _ _ _ at C
  refine j_iload_n C dX0_watching_0 rfl 1 rfl ?_
  refine j_i2l C dX0_watching_1 rfl 2 rfl ?_
  refine j_lconst (v := lN 0) C dX0_watching_2 (by decide) 3 rfl ?_
  refine j_ldc2 C q518 dX0_watching_3 6 rfl ?_
  rw [show (7 : Int64) = lN 7 from rfl]
  refine j_ci C (cs_X0_57 C (ct_X0_in (h - 1) (by omega)) rfl (by omega) (by omega) (by omega) rfl (Nat.le_of_ble_eq_true rfl) dX0_watching_6) 9 rfl ?_
  rintro _ _ ⟨rfl, rfl⟩
  rw [gl_il_c (n := 7) (by decide), show 7 + 1 = 8 from rfl]
  refine b_if_eq C 27 12 dX0_watching_9 (by decide) rfl (fun c_9 => ?_) (fun c_9 => ?_)
  · refine j_iconst (v := -1) C dX0_watching_27 (by decide) 28 rfl ?_
    exact j_iret C hQ ⟨by rw [if_neg (fun q => by rw [c_9] at q; exact absurd q.1 (by decide))], rfl⟩ (by omega) (by omega) dX0_watching_28
  · obtain ⟨k, hk_, rfl⟩ := (gl_in_iff (by decide)).mp c_9
    have hT := hG.hs.wt k hk_
    have hck : (nI k).toNatClampNeg = k := nI_clamp (by omega)
    refine j_aload_n C dX0_watching_12 rfl 13 rfl ?_
    refine gf_X0_12 C hG.o hG.r0 dX0_watching_13 16 rfl ?_
    refine gf_X0_340 C hG.hs.o hG.hs.r4 dX0_watching_16 19 rfl ?_
    refine j_iload_n C dX0_watching_19 rfl 20 rfl ?_
    refine j_aald C (by decide) hG.hs.k5 (by omega) (by decide) dX0_watching_20 21 rfl ?_
    rw [hG.hs.wr k (by omega)]
    change gl_J _ _ _ _ _ _ (Value.ref _ :: _)
    refine gf_X0_344 C hT.o dX0_watching_21 24 rfl ?_
    refine b_if_ne C 29 27 dX0_watching_24 (by decide) rfl (fun c_24 => ?_) (fun c_24 => ?_)
    · refine j_iload_n C dX0_watching_29 rfl 30 rfl ?_
      rcases gl_sw w 3 (by decide) with ⟨k_, hk_, rfl⟩ | ho_
      · rcases (show k_ = 0 ∨ k_ = 1 ∨ k_ = 2 by omega) with rfl | rfl | rfl
        · refine j_tableIn C 56 dX0_watching_30 (by decide) (by decide) rfl (by decide) ?_
          refine j_aload_n C dX0_watching_56 rfl 57 rfl ?_
          refine gf_X0_12 C hG.o hG.r0 dX0_watching_57 60 rfl ?_
          refine gf_X0_340 C hG.hs.o hG.hs.r4 dX0_watching_60 63 rfl ?_
          refine j_iload_n C dX0_watching_63 rfl 64 rfl ?_
          refine j_aald C (by decide) hG.hs.k5 (by omega) (by decide) dX0_watching_64 65 rfl ?_
          rw [hG.hs.wr k (by omega)]
          change gl_J _ _ _ _ _ _ (Value.ref _ :: _)
          refine gf_X0_354 C hT.o dX0_watching_65 68 rfl ?_
          exact j_iret C hQ ⟨by rw [if_pos ⟨c_9, by rw [hck]; exact c_24⟩, hck, if_pos rfl], rfl⟩ (by omega) (by omega) dX0_watching_68
        · refine j_tableIn C 69 dX0_watching_30 (by decide) (by decide) rfl (by decide) ?_
          refine j_aload_n C dX0_watching_69 rfl 70 rfl ?_
          refine gf_X0_12 C hG.o hG.r0 dX0_watching_70 73 rfl ?_
          refine gf_X0_340 C hG.hs.o hG.hs.r4 dX0_watching_73 76 rfl ?_
          refine j_iload_n C dX0_watching_76 rfl 77 rfl ?_
          refine j_aald C (by decide) hG.hs.k5 (by omega) (by decide) dX0_watching_77 78 rfl ?_
          rw [hG.hs.wr k (by omega)]
          change gl_J _ _ _ _ _ _ (Value.ref _ :: _)
          refine gf_X0_356 C hT.o dX0_watching_78 81 rfl ?_
          exact j_iret C hQ ⟨by rw [if_pos ⟨c_9, by rw [hck]; exact c_24⟩, hck, if_neg (by decide), if_pos rfl], rfl⟩ (by omega) (by omega) dX0_watching_81
        · refine j_tableIn C 82 dX0_watching_30 (by decide) (by decide) rfl (by decide) ?_
          refine j_aload_n C dX0_watching_82 rfl 83 rfl ?_
          refine gf_X0_12 C hG.o hG.r0 dX0_watching_83 86 rfl ?_
          refine gf_X0_340 C hG.hs.o hG.hs.r4 dX0_watching_86 89 rfl ?_
          refine j_iload_n C dX0_watching_89 rfl 90 rfl ?_
          refine j_aald C (by decide) hG.hs.k5 (by omega) (by decide) dX0_watching_90 91 rfl ?_
          rw [hG.hs.wr k (by omega)]
          change gl_J _ _ _ _ _ _ (Value.ref _ :: _)
          refine gf_X0_347 C hT.o dX0_watching_91 94 rfl ?_
          exact j_iret C hQ ⟨by rw [if_pos ⟨c_9, by rw [hck]; exact c_24⟩, hck, if_neg (by decide), if_neg (by decide), if_pos rfl], rfl⟩ (by omega) (by omega) dX0_watching_94
      · refine j_tableOut C 95 dX0_watching_30 (by omega) (by decide) ?_
        refine j_iconst (v := -1) C dX0_watching_95 (by decide) 96 rfl ?_
        exact j_iret C hQ ⟨by rw [if_pos ⟨c_9, by rw [hck]; exact c_24⟩, hck, if_neg (gl_out (by decide) (by decide) ho_), if_neg (gl_out (by decide) (by decide) ho_), if_neg (gl_out (by decide) (by decide) ho_)], rfl⟩ (by omega) (by omega) dX0_watching_96
    · refine j_iconst (v := -1) C dX0_watching_27 (by decide) 28 rfl ?_
      exact j_iret C hQ ⟨by rw [if_neg (fun q => by rw [hck, c_24] at q; exact absurd q.2 (by decide))], rfl⟩ (by omega) (by omega) dX0_watching_28
theorem gl_mi_b {m : gl_Mp} {ky : Int32} {i : Nat} (h : ∀ j, j < m.length → (gl_at m j).2 < 400) (hi : i < 400) : ∀ j, j < (gl_mi m ky i).length → (gl_at (gl_mi m ky i) j).2 < 400 := by
  intro j hj
  unfold gl_mi at hj ⊢
  by_cases hq : gl_fk m ky < m.length
  · rw [if_pos hq] at hj ⊢
    rw [List.length_set] at hj
    rw [gl_at_set hq]
    by_cases e : j = gl_fk m ky
    · rw [if_pos e]; exact hi
    · rw [if_neg e]; exact h j hj
  · rw [if_neg hq] at hj ⊢
    rw [List.length_append] at hj
    have hj : j < m.length + 1 := hj
    rw [gl_at_app]
    by_cases e : j = m.length
    · rw [if_pos e]; exact hi
    · rw [if_neg e]; exact h j (by omega)
set_option maxHeartbeats 4000000 in
set_option maxRecDepth 100000 in
theorem ct_X0_watch {l : Launch} {δ : gl_Del} {Λ : gl_Lay} {I : Nat → Nat → Int32} {L : Nat → Nat → Int64} {B : Nat → Nat → Bool} {R : Nat → Nat → Option Nat} {lm : Nat} {mn wn : Nat → Nat} {sn : Nat → Nat → Nat} {wl wg : Nat → Nat} {ws : Nat → gl_Mp} {x : Int32} (h : Nat) (hh : 4 ≤ h) (hG : gl_GL Λ R) (H : gl_gL I 1 lm mn wn sn) (HW : gl_gW I B lm mn wl wg ws) : gl_Ct l δ yX0_watch (ws_ yX0_watch cX0_watch 6 ((some FieldType.int))) (gl_rm h 0 0) 0 0 [.ref 0, .int x] (Λ, I, L, B, R) (gl_Qi fun r S => if (gl_in x 8 = true ∧ B (1 + 665 + 3 * x.toNatClampNeg) 7 = true) then ∃ I' W, W = gl_wrd (gl_wok2 (B ((1 + 7 + 19 * wl x.toNatClampNeg) + 5)) (I ((1 + 7 + 19 * wl x.toNatClampNeg) + 1)) (I (1 + 665 + 3 * x.toNatClampNeg) 3) (I (1 + 665 + 3 * x.toNatClampNeg) 4)) (I ((1 + 7 + 19 * wl x.toNatClampNeg) + 1)) (mn (wl (x.toNatClampNeg)) - wg (x.toNatClampNeg)) (wg (x.toNatClampNeg)) (ws (x.toNatClampNeg)) ∧ r = nI (gl_gwc (gl_lat (I ((1 + 7 + 19 * wl x.toNatClampNeg) + 1)) (I ((1 + 7 + 19 * wl x.toNatClampNeg) + 2)) (sn (wl (x.toNatClampNeg))) (B ((1 + 7 + 19 * wl x.toNatClampNeg) + 7)) (wn (wl (x.toNatClampNeg))) (mn (wl (x.toNatClampNeg)))) W W.length) ∧ S = (Λ, I', L, B, R) ∧ gl_wq I' (1 + 665 + 3 * x.toNatClampNeg) W ∧ I' (1 + 665 + 3 * x.toNatClampNeg) 5 = nI (mn (wl x.toNatClampNeg)) ∧ (∀ j, j < 5 → I' (1 + 665 + 3 * x.toNatClampNeg) j = I (1 + 665 + 3 * x.toNatClampNeg) j) ∧ (∀ c, c < (1 + 665 + 3 * x.toNatClampNeg) ∨ (1 + 665 + 3 * x.toNatClampNeg) + 3 ≤ c → I' c = I c) else r = -1 ∧ S = (Λ, I, L, B, R)) := by
  refine gl_of (by decide) (Nat.le_of_ble_eq_true rfl) rfl ?_
  intro κ C hQ hlκ hδκ hnL hini
  change gl_Cx κ RX0 _ _ _ at C
  refine j_iload_n C dX0_watch_0 rfl 1 rfl ?_
  refine j_i2l C dX0_watch_1 rfl 2 rfl ?_
  refine j_lconst (v := lN 0) C dX0_watch_2 (by decide) 3 rfl ?_
  refine j_ldc2 C q518 dX0_watch_3 6 rfl ?_
  rw [show (7 : Int64) = lN 7 from rfl]
  refine j_ci C (cs_X0_57 C (ct_X0_in (h - 1) (by omega)) rfl (by omega) (by omega) (by omega) rfl (Nat.le_of_ble_eq_true rfl) dX0_watch_6) 9 rfl ?_
  rintro _ _ ⟨rfl, rfl⟩
  rw [gl_il_c (n := 7) (by decide), show 7 + 1 = 8 from rfl]
  refine b_if_eq C 27 12 dX0_watch_9 (by decide) rfl (fun c_9 => ?_) (fun c_9 => ?_)
  · refine j_iconst (v := -1) C dX0_watch_27 (by decide) 28 rfl ?_
    exact j_iret C hQ (by rw [if_neg (fun q => by rw [c_9] at q; exact absurd q.1 (by decide))]; exact ⟨rfl, rfl⟩) (by omega) (by omega) dX0_watch_28
  · obtain ⟨k, hk_, rfl⟩ := (gl_in_iff (by decide)).mp c_9
    have hT := hG.hs.wt k hk_
    have hck : (nI k).toNatClampNeg = k := nI_clamp (by omega)
    refine j_aload_n C dX0_watch_12 rfl 13 rfl ?_
    refine gf_X0_12 C hG.o hG.r0 dX0_watch_13 16 rfl ?_
    refine gf_X0_340 C hG.hs.o hG.hs.r4 dX0_watch_16 19 rfl ?_
    refine j_iload_n C dX0_watch_19 rfl 20 rfl ?_
    refine j_aald C (by decide) hG.hs.k5 (by omega) (by decide) dX0_watch_20 21 rfl ?_
    rw [hG.hs.wr k (by omega)]
    change gl_J _ _ _ _ _ _ (Value.ref _ :: _)
    refine gf_X0_344 C hT.o dX0_watch_21 24 rfl ?_
    refine b_if_ne C 29 27 dX0_watch_24 (by decide) rfl (fun c_24 => ?_) (fun c_24 => ?_)
    · obtain ⟨g1, g2, g3, g4, g5, g6, g7⟩ := HW k hk_ c_24
      have hl6 := H.2.1
      have hL := hG.hs.lg (wl k) (by omega)
      obtain ⟨hn9, hn4, hw10, hw1, hsn⟩ := H.2.2 (wl k) g2
      have loop2 : ∀ (I1 : Nat → Nat → Int32) (W1 : gl_Mp), W1 = gl_wrd (gl_wok2 (B ((1 + 7 + 19 * wl k) + 5)) (I ((1 + 7 + 19 * wl k) + 1)) (I (1 + 665 + 3 * k) 3) (I (1 + 665 + 3 * k) 4)) (I ((1 + 7 + 19 * wl k) + 1)) (mn (wl k) - wg k) (wg k) (ws k) → gl_wq I1 (1 + 665 + 3 * k) W1 → W1.length ≤ 400 → I1 (1 + 665 + 3 * k) 5 = nI (mn (wl k)) → (∀ j, j < 5 → I1 (1 + 665 + 3 * k) j = I (1 + 665 + 3 * k) j) → (∀ c, c < (1 + 665 + 3 * k) ∨ (1 + 665 + 3 * k) + 3 ≤ c → I1 c = I c) → ∀ c j : Nat, j + c = W1.length → gl_J κ 0 0 (Λ, I1, L, B, R) 137 [some (.ref 0), some (.int (nI k)), some (.ref (1 + 665 + 3 * k)), some (.ref (1 + 7 + 19 * wl k)), some (.int (nI ((gl_gwc (gl_lat (I ((1 + 7 + 19 * wl k) + 1)) (I ((1 + 7 + 19 * wl k) + 2)) (sn (wl k)) (B ((1 + 7 + 19 * wl k) + 7)) (wn (wl k)) (mn (wl k))) W1) j))), some (.int (nI j))] [] := by
        intro I1 W1 htg hw hwl hg hF5 hF c
        have hgw := gl_gwc_le (lat := (gl_lat (I ((1 + 7 + 19 * wl k) + 1)) (I ((1 + 7 + 19 * wl k) + 2)) (sn (wl k)) (B ((1 + 7 + 19 * wl k) + 7)) (wn (wl k)) (mn (wl k)))) (W := W1)
        induction c with
        | zero =>
          intro j hj
          have hjN : j = W1.length := by omega
          refine j_iload C dX0_watch_137 rfl 139 rfl ?_
          refine j_aload_n C dX0_watch_139 rfl 140 rfl ?_
          refine gf_X0_356 C hT.o dX0_watch_140 143 rfl ?_
          rw [hw.1]
          refine n_icmp_ge C 187 146 dX0_watch_143 (by decide) rfl (by omega) (by omega) (fun c_143 => ?_) (fun c_143 => ?_)
          · refine j_iload C dX0_watch_187 rfl 189 rfl ?_
            exact j_iret C hQ (by rw [if_pos ⟨c_9, by rw [hck]; exact c_24⟩, hck]; exact ⟨_, _, htg, by rw [hjN], rfl, hw, hg, hF5, hF⟩) (by omega) (by omega) dX0_watch_189
          · exact absurd c_143 (by omega)
        | succ c ih =>
          intro j hj
          have := hgw j
          refine j_iload C dX0_watch_137 rfl 139 rfl ?_
          refine j_aload_n C dX0_watch_139 rfl 140 rfl ?_
          refine gf_X0_356 C hT.o dX0_watch_140 143 rfl ?_
          rw [hw.1]
          refine n_icmp_ge C 187 146 dX0_watch_143 (by decide) rfl (by omega) (by omega) (fun c_143 => ?_) (fun c_143 => ?_)
          · exact absurd c_143 (by omega)
          · refine j_iload C dX0_watch_146 rfl 148 rfl ?_
            refine j_aload_n C dX0_watch_148 rfl 149 rfl ?_
            refine j_aload_n C dX0_watch_149 rfl 150 rfl ?_
            refine gf_X0_69 C hL.o dX0_watch_150 153 rfl ?_
            rw [hF (1 + 7 + 19 * wl k) (by omega), hn9]
            refine j_aload_n C dX0_watch_153 rfl 154 rfl ?_
            refine gf_X0_361 C hT.o hT.r0 dX0_watch_154 157 rfl ?_
            refine j_iload C dX0_watch_157 rfl 159 rfl ?_
            refine j_iald C hT.k1 (by omega) (by decide) dX0_watch_159 160 rfl ?_
            rw [(hw.2 j (by omega)).1]
            refine j_ci C (cs_X0_117 C (ct_X2_latest (I := I1) (lo := (1 + 7 + 19 * wl k)) (wn := wn (wl k)) (n := mn (wl k)) (sn := sn (wl k)) (h - 1) (by omega) hL (by rw [hF _ (by omega)]; exact hw10) hw1 (fun w hw_ => by rw [hF _ (by omega)]; exact (hsn w hw_).1) (fun w hw_ => (hsn w hw_).2) hn4) hL.o rfl (by omega) (by omega) (by omega) rfl (Nat.le_of_ble_eq_true rfl) dX0_watch_160) 163 rfl ?_
            rintro _ _ ⟨rfl, rfl⟩
            rw [hF ((1 + 7 + 19 * wl k) + 1) (by omega), hF ((1 + 7 + 19 * wl k) + 2) (by omega)]
            refine j_aload_n C dX0_watch_163 rfl 164 rfl ?_
            refine gf_X0_362 C hT.o hT.r1 dX0_watch_164 167 rfl ?_
            refine j_iload C dX0_watch_167 rfl 169 rfl ?_
            refine j_iald C hT.k2 (by omega) (by decide) dX0_watch_169 170 rfl ?_
            rw [(hw.2 j (by omega)).2]
            refine j_icmp_ne C 177 173 dX0_watch_170 (by decide) rfl (fun c_170 => ?_) (fun c_170 => ?_)
            · refine j_iconst (v := nI 1) C dX0_watch_177 (by decide) 178 rfl ?_
              refine n_iadd C dX0_watch_178 179 rfl ?_
              refine j_istore C dX0_watch_179 (Nat.le_of_ble_eq_true rfl) (by rw [hnL]; decide) rfl 181 rfl ?_
              refine n_iinc C dX0_watch_181 rfl (by rw [hnL]; decide) rfl 184 rfl ?_
              refine j_goto (tgt := 137) C dX0_watch_184 (by decide) ?_
              have e : (gl_gwc (gl_lat (I ((1 + 7 + 19 * wl k) + 1)) (I ((1 + 7 + 19 * wl k) + 2)) (sn (wl k)) (B ((1 + 7 + 19 * wl k) + 7)) (wn (wl k)) (mn (wl k))) W1) (j + 1) = (gl_gwc (gl_lat (I ((1 + 7 + 19 * wl k) + 1)) (I ((1 + 7 + 19 * wl k) + 2)) (sn (wl k)) (B ((1 + 7 + 19 * wl k) + 7)) (wn (wl k)) (mn (wl k))) W1) j + 1 := by rw [gl_gwc, if_neg c_170]
              have := ih (j + 1) (by omega)
              rw [e] at this
              exact this
            · refine j_iconst (v := nI 0) C dX0_watch_173 (by decide) 174 rfl ?_
              refine j_goto (tgt := 178) C dX0_watch_174 (by decide) ?_
              refine n_iadd C dX0_watch_178 179 rfl ?_
              refine j_istore C dX0_watch_179 (Nat.le_of_ble_eq_true rfl) (by rw [hnL]; decide) rfl 181 rfl ?_
              refine n_iinc C dX0_watch_181 rfl (by rw [hnL]; decide) rfl 184 rfl ?_
              refine j_goto (tgt := 137) C dX0_watch_184 (by decide) ?_
              have e : (gl_gwc (gl_lat (I ((1 + 7 + 19 * wl k) + 1)) (I ((1 + 7 + 19 * wl k) + 2)) (sn (wl k)) (B ((1 + 7 + 19 * wl k) + 7)) (wn (wl k)) (mn (wl k))) W1) (j + 1) = (gl_gwc (gl_lat (I ((1 + 7 + 19 * wl k) + 1)) (I ((1 + 7 + 19 * wl k) + 2)) (sn (wl k)) (B ((1 + 7 + 19 * wl k) + 7)) (wn (wl k)) (mn (wl k))) W1) j + 0 := by rw [gl_gwc, if_pos c_170]; rfl
              have := ih (j + 1) (by omega)
              rw [e] at this
              exact this
      have loop : ∀ (c g : Nat) (W1 : gl_Mp) (I1 : Nat → Nat → Int32) (x4 x5 : Option Value), g + c = mn (wl k) → gl_wq I1 (1 + 665 + 3 * k) W1 → W1.length ≤ g → I1 (1 + 665 + 3 * k) 5 = nI g → (∀ j, j < 5 → I1 (1 + 665 + 3 * k) j = I (1 + 665 + 3 * k) j) → (∀ c, c < (1 + 665 + 3 * k) ∨ (1 + 665 + 3 * k) + 3 ≤ c → I1 c = I c) → (∀ j, j < W1.length → (gl_at W1 j).2 < 400) → gl_wrd (gl_wok2 (B ((1 + 7 + 19 * wl k) + 5)) (I ((1 + 7 + 19 * wl k) + 1)) (I (1 + 665 + 3 * k) 3) (I (1 + 665 + 3 * k) 4)) (I ((1 + 7 + 19 * wl k) + 1)) c g W1 = gl_wrd (gl_wok2 (B ((1 + 7 + 19 * wl k) + 5)) (I ((1 + 7 + 19 * wl k) + 1)) (I (1 + 665 + 3 * k) 3) (I (1 + 665 + 3 * k) 4)) (I ((1 + 7 + 19 * wl k) + 1)) (mn (wl k) - wg k) (wg k) (ws k) → gl_J κ 0 0 (Λ, I1, L, B, R) 52 [some (.ref 0), some (.int (nI k)), some (.ref (1 + 665 + 3 * k)), some (.ref (1 + 7 + 19 * wl k)), x4, x5] [] := by
        intro c
        induction c with
        | zero =>
          intro g W1 I1 x4 x5 hc hw hlen hg hF5 hF hb4 htg
          have hgN : g = mn (wl k) := by omega
          refine j_aload_n C dX0_watch_52 rfl 53 rfl ?_
          refine gf_X0_354 C hT.o dX0_watch_53 56 rfl ?_
          rw [hg]
          refine j_aload_n C dX0_watch_56 rfl 57 rfl ?_
          refine gf_X0_69 C hL.o dX0_watch_57 60 rfl ?_
          rw [hF (1 + 7 + 19 * wl k) (by omega), hn9]
          refine n_icmp_ge C 131 63 dX0_watch_60 (by decide) rfl (by omega) (by omega) (fun c_60 => ?_) (fun c_60 => ?_)
          · refine j_iconst (v := nI 0) C dX0_watch_131 (by decide) 132 rfl ?_
            refine j_istore C dX0_watch_132 (Nat.le_of_ble_eq_true rfl) (by rw [hnL]; decide) rfl 134 rfl ?_
            refine j_iconst (v := nI 0) C dX0_watch_134 (by decide) 135 rfl ?_
            refine j_istore C dX0_watch_135 (Nat.le_of_ble_eq_true rfl) (by rw [hnL]; decide) rfl 137 rfl ?_
            exact loop2 I1 W1 htg hw (by omega) (by rw [hg, hgN]) hF5 hF W1.length 0 (by omega)
          · exact absurd c_60 (by omega)
        | succ c ih =>
          intro g W1 I1 x4 x5 hc hw hlen hg hF5 hF hb4 htg
          refine j_aload_n C dX0_watch_52 rfl 53 rfl ?_
          refine gf_X0_354 C hT.o dX0_watch_53 56 rfl ?_
          rw [hg]
          refine j_aload_n C dX0_watch_56 rfl 57 rfl ?_
          refine gf_X0_69 C hL.o dX0_watch_57 60 rfl ?_
          rw [hF (1 + 7 + 19 * wl k) (by omega), hn9]
          refine n_icmp_ge C 131 63 dX0_watch_60 (by decide) rfl (by omega) (by omega) (fun c_60 => ?_) (fun c_60 => ?_)
          · exact absurd c_60 (by omega)
          · refine j_aload_n C dX0_watch_63 rfl 64 rfl ?_
            refine gf_X0_96 C hL.o hL.r4 dX0_watch_64 67 rfl ?_
            refine j_aload_n C dX0_watch_67 rfl 68 rfl ?_
            refine gf_X0_354 C hT.o dX0_watch_68 71 rfl ?_
            rw [hg]
            refine j_zald C hL.k5 (by omega) (by decide) dX0_watch_71 72 rfl ?_
            refine b_if_ne C 118 75 dX0_watch_72 (by decide) rfl (fun c_72 => ?_) (fun c_72 => ?_)
            · refine j_aload_n C dX0_watch_118 rfl 119 rfl ?_
              refine j_dup C dX0_watch_119 rfl 120 rfl ?_
              refine gf_X0_354 C hT.o dX0_watch_120 123 rfl ?_
              rw [hg]
              refine j_iconst (v := nI 1) C dX0_watch_123 (by decide) 124 rfl ?_
              refine n_iadd C dX0_watch_124 125 rfl ?_
              refine pf_X0_354 C hT.o dX0_watch_125 128 rfl ?_
              refine j_goto (tgt := 52) C dX0_watch_128 (by decide) ?_
              have hok : (gl_wok2 (B ((1 + 7 + 19 * wl k) + 5)) (I ((1 + 7 + 19 * wl k) + 1)) (I (1 + 665 + 3 * k) 3) (I (1 + 665 + 3 * k) 4)) g = false := by
                unfold gl_wok2
                rw [c_72]; rfl
              refine ih (g + 1) W1 _ _ _ (by omega) (hw.of_eq ?_ ?_ ?_) (by omega) ?_ (fun j hj => ?_) (fun c hc => ?_) hb4 ?_
              · rw [gl_u2_eq, gl_up_ne (by decide)]
              · rw [gl_u2_ne (by omega)]
              · rw [gl_u2_ne (by omega)]
              · rw [gl_u2_eq, gl_up_eq]
              · rw [gl_u2_eq, gl_up_ne (by omega)]; exact hF5 j hj
              · rw [gl_u2_ne (by omega)]; exact hF c hc
              · rw [← htg, gl_wrd, if_neg (by rw [hok]; decide)]
            · refine j_aload_n C dX0_watch_75 rfl 76 rfl ?_
              refine gf_X0_214 C hL.o hL.r0 dX0_watch_76 79 rfl ?_
              refine j_aload_n C dX0_watch_79 rfl 80 rfl ?_
              refine gf_X0_354 C hT.o dX0_watch_80 83 rfl ?_
              rw [hg]
              refine j_iald C hL.k1 (by omega) (by decide) dX0_watch_83 84 rfl ?_
              rw [hF ((1 + 7 + 19 * wl k) + 1) (by omega)]
              refine j_i2l C dX0_watch_84 rfl 85 rfl ?_
              refine j_aload_n C dX0_watch_85 rfl 86 rfl ?_
              refine gf_X0_348 C hT.o dX0_watch_86 89 rfl ?_
              rw [hF5 3 (by decide)]
              refine j_i2l C dX0_watch_89 rfl 90 rfl ?_
              refine j_aload_n C dX0_watch_90 rfl 91 rfl ?_
              refine gf_X0_351 C hT.o dX0_watch_91 94 rfl ?_
              rw [hF5 4 (by decide)]
              refine j_i2l C dX0_watch_94 rfl 95 rfl ?_
              refine j_ci C (cs_X0_57 C (ct_X0_in (h - 1) (by omega)) rfl (by omega) (by omega) (by omega) rfl (Nat.le_of_ble_eq_true rfl) dX0_watch_95) 98 rfl ?_
              rintro _ _ ⟨rfl, rfl⟩
              rw [gl_il_i]
              refine b_if_eq C 118 101 dX0_watch_98 (by decide) rfl (fun c_98 => ?_) (fun c_98 => ?_)
              · refine j_aload_n C dX0_watch_118 rfl 119 rfl ?_
                refine j_dup C dX0_watch_119 rfl 120 rfl ?_
                refine gf_X0_354 C hT.o dX0_watch_120 123 rfl ?_
                rw [hg]
                refine j_iconst (v := nI 1) C dX0_watch_123 (by decide) 124 rfl ?_
                refine n_iadd C dX0_watch_124 125 rfl ?_
                refine pf_X0_354 C hT.o dX0_watch_125 128 rfl ?_
                refine j_goto (tgt := 52) C dX0_watch_128 (by decide) ?_
                have hok : (gl_wok2 (B ((1 + 7 + 19 * wl k) + 5)) (I ((1 + 7 + 19 * wl k) + 1)) (I (1 + 665 + 3 * k) 3) (I (1 + 665 + 3 * k) 4)) g = false := by
                  unfold gl_wok2
                  have z := of_decide_eq_false c_98
                  rw [c_72]
                  by_cases z1 : I ((1 + 7 + 19 * wl k) + 1) g < I (1 + 665 + 3 * k) 3
                  · rw [decide_eq_false (fun q => q z1)]; rfl
                  · rw [decide_eq_true z1, decide_eq_false (fun q => z ⟨z1, Int32.not_lt.mpr q⟩)]; rfl
                refine ih (g + 1) W1 _ _ _ (by omega) (hw.of_eq ?_ ?_ ?_) (by omega) ?_ (fun j hj => ?_) (fun c hc => ?_) hb4 ?_
                · rw [gl_u2_eq, gl_up_ne (by decide)]
                · rw [gl_u2_ne (by omega)]
                · rw [gl_u2_ne (by omega)]
                · rw [gl_u2_eq, gl_up_eq]
                · rw [gl_u2_eq, gl_up_ne (by omega)]; exact hF5 j hj
                · rw [gl_u2_ne (by omega)]; exact hF c hc
                · rw [← htg, gl_wrd, if_neg (by rw [hok]; decide)]
              · refine j_aload_n C dX0_watch_101 rfl 102 rfl ?_
                refine j_aload_n C dX0_watch_102 rfl 103 rfl ?_
                refine gf_X0_214 C hL.o hL.r0 dX0_watch_103 106 rfl ?_
                refine j_aload_n C dX0_watch_106 rfl 107 rfl ?_
                refine gf_X0_354 C hT.o dX0_watch_107 110 rfl ?_
                rw [hg]
                refine j_iald C hL.k1 (by omega) (by decide) dX0_watch_110 111 rfl ?_
                rw [hF ((1 + 7 + 19 * wl k) + 1) (by omega)]
                refine j_aload_n C dX0_watch_111 rfl 112 rfl ?_
                refine gf_X0_354 C hT.o dX0_watch_112 115 rfl ?_
                rw [hg]
                refine j_cv C (cs_X0_357 C (ct_X5_reads (I := I1) (w := (1 + 665 + 3 * k)) (n := W1.length) (h - 1) (by omega) hT hw.1 (by omega)) hT.o rfl (by omega) (by omega) (by omega) rfl (Nat.le_of_ble_eq_true rfl) dX0_watch_115) 118 rfl ?_
                rintro _ rfl
                rw [hw.fk]
                refine j_aload_n C dX0_watch_118 rfl 119 rfl ?_
                refine j_dup C dX0_watch_119 rfl 120 rfl ?_
                refine gf_X0_354 C hT.o dX0_watch_120 123 rfl ?_
                rw [gl_u2_eq, gl_up_ne (show (5 : Nat) ≠ 6 by decide), gl_u2_ne (show (1 + 665 + 3 * k) ≠ (1 + 665 + 3 * k) + 2 by omega), gl_u2_ne (show (1 + 665 + 3 * k) ≠ (1 + 665 + 3 * k) + 1 by omega), hg]
                refine j_iconst (v := nI 1) C dX0_watch_123 (by decide) 124 rfl ?_
                refine n_iadd C dX0_watch_124 125 rfl ?_
                refine pf_X0_354 C hT.o dX0_watch_125 128 rfl ?_
                refine j_goto (tgt := 52) C dX0_watch_128 (by decide) ?_
                have hok : (gl_wok2 (B ((1 + 7 + 19 * wl k) + 5)) (I ((1 + 7 + 19 * wl k) + 1)) (I (1 + 665 + 3 * k) 3) (I (1 + 665 + 3 * k) 4)) g = true := by
                  unfold gl_wok2
                  obtain ⟨z1, z2⟩ := of_decide_eq_true c_98
                  rw [c_72, decide_eq_true z1, decide_eq_true (Int32.not_lt.mp z2)]; rfl
                have hlen2 := gl_mi_len2 (m := W1) (ky := I ((1 + 7 + 19 * wl k) + 1) g) (i := g)
                refine ih (g + 1) (gl_mi W1 (I ((1 + 7 + 19 * wl k) + 1) g) g) _ _ _ (by omega) (hw.reads.of_eq ?_ ?_ ?_) (by omega) ?_ (fun j hj => ?_) (fun c hc => ?_) (fun j hj => ?_) ?_
                · rw [gl_u2_eq, gl_up_ne (by decide)]
                · rw [gl_u2_ne (by omega)]
                · rw [gl_u2_ne (by omega)]
                · rw [gl_u2_eq, gl_up_eq]
                · rw [gl_u2_eq, gl_up_ne (by omega), gl_u2_eq, gl_up_ne (by omega), gl_u2_ne (by omega), gl_u2_ne (by omega)]; exact hF5 j hj
                · rw [gl_u2_ne (by omega), gl_u2_ne (by omega), gl_u2_ne (by omega), gl_u2_ne (by omega)]; exact hF c hc
                · exact gl_mi_b hb4 (by omega) j hj
                · rw [← htg, gl_wrd, if_pos hok]
      refine j_aload_n C dX0_watch_29 rfl 30 rfl ?_
      refine gf_X0_12 C hG.o hG.r0 dX0_watch_30 33 rfl ?_
      refine gf_X0_340 C hG.hs.o hG.hs.r4 dX0_watch_33 36 rfl ?_
      refine j_iload_n C dX0_watch_36 rfl 37 rfl ?_
      refine j_aald C (by decide) hG.hs.k5 (by omega) (by decide) dX0_watch_37 38 rfl ?_
      rw [hG.hs.wr k (by omega)]
      change gl_J _ _ _ _ _ _ (Value.ref _ :: _)
      refine j_astore_n C dX0_watch_38 (Nat.le_of_ble_eq_true rfl) (by rw [hnL]; decide) rfl 39 rfl ?_
      refine j_aload_n C dX0_watch_39 rfl 40 rfl ?_
      refine gf_X0_12 C hG.o hG.r0 dX0_watch_40 43 rfl ?_
      refine gf_X0_65 C hG.hs.o hG.hs.r0 dX0_watch_43 46 rfl ?_
      refine j_aload_n C dX0_watch_46 rfl 47 rfl ?_
      refine gf_X0_347 C hT.o dX0_watch_47 50 rfl ?_
      rw [g1]
      refine j_aald C (by decide) hG.hs.k1 (by omega) (by decide) dX0_watch_50 51 rfl ?_
      rw [hG.hs.lr (wl k) (by omega)]
      change gl_J _ _ _ _ _ _ (Value.ref _ :: _)
      refine j_astore_n C dX0_watch_51 (Nat.le_of_ble_eq_true rfl) (by rw [hnL]; decide) rfl 52 rfl ?_
      exact loop (mn (wl k) - wg k) (wg k) (ws k) I none none (by omega) g5 g6 g3 (fun _ _ => rfl) (fun _ _ => rfl) g7 rfl
    · refine j_iconst (v := -1) C dX0_watch_27 (by decide) 28 rfl ?_
      exact j_iret C hQ (by rw [if_neg (fun q => by rw [hck, c_24] at q; exact absurd q.2 (by decide))]; exact ⟨rfl, rfl⟩) (by omega) (by omega) dX0_watch_28
set_option maxHeartbeats 4000000 in
set_option maxRecDepth 100000 in
theorem ct_X0_all {l : Launch} {δ : gl_Del} {Λ : gl_Lay} {I : Nat → Nat → Int32} {L : Nat → Nat → Int64} {B : Nat → Nat → Bool} {R : Nat → Nat → Option Nat} {lm : Nat} {mn wn : Nat → Nat} {sn : Nat → Nat → Nat} {bm : Nat} {w : Int32} (h : Nat) (hh : 1 ≤ h) (hG : gl_GL Λ R) (H : gl_gL I 1 lm mn wn sn) (hbm : I 1 7 = nI bm) : gl_Ct l δ yX0_all (ws_ yX0_all cX0_all 4 ((some FieldType.int))) (gl_rm h 0 0) 0 0 [.ref 0, .int w] (Λ, I, L, B, R) (gl_Qi fun r S => r = (if w = nI 0 then nI lm else if w = nI 1 then nI ((gl_ct (fun s => (R (1 + 121 + s) 0).isSome)) 16) else if w = nI 2 then nI ((gl_ct (fun r => B (1 + 137 + 4 * r) 6)) 12) else if w = nI 3 then nI bm else if w = nI 4 then nI (gl_sum mn lm) else -1) ∧ S = (Λ, I, L, B, R)) := by
  refine gl_of (by decide) (Nat.le_of_ble_eq_true rfl) rfl ?_
  intro κ C hQ hlκ hδκ hnL hini
  change gl_Cx κ RX0 _ _ _ at C
  have hl6 := H.2.1
  have loop1 : w = nI 1 → ∀ k j : Nat, j + k = 16 → gl_J κ 0 0 (Λ, I, L, B, R) 46 [some (.ref 0), some (.int (nI 1)), some (.int (nI ((gl_ct (fun s => (R (1 + 121 + s) 0).isSome)) j))), some (.int (nI j))] [] := by
    intro hw_
    subst hw_
    intro k
    induction k with
    | zero =>
      intro j hj
      have hjN : j = 16 := by omega
      refine j_iload_n C dX0_all_46 rfl 47 rfl ?_
      refine j_bipush (v := nI 16) C dX0_all_47 (by decide) 49 rfl ?_
      refine n_icmp_ge C 81 52 dX0_all_49 (by decide) rfl (by omega) (by omega) (fun c_49 => ?_) (fun c_49 => ?_)
      · refine j_iload_n C dX0_all_81 rfl 82 rfl ?_
        exact j_iret C hQ ⟨by rw [if_neg (by decide), if_pos rfl, hjN], rfl⟩ (by omega) (by omega) dX0_all_82
      · exact absurd c_49 (by omega)
    | succ k ih =>
      intro j hj
      refine j_iload_n C dX0_all_46 rfl 47 rfl ?_
      refine j_bipush (v := nI 16) C dX0_all_47 (by decide) 49 rfl ?_
      refine n_icmp_ge C 81 52 dX0_all_49 (by decide) rfl (by omega) (by omega) (fun c_49 => ?_) (fun c_49 => ?_)
      · exact absurd c_49 (by omega)
      · refine j_iload_n C dX0_all_52 rfl 53 rfl ?_
        refine j_aload_n C dX0_all_53 rfl 54 rfl ?_
        refine gf_X0_12 C hG.o hG.r0 dX0_all_54 57 rfl ?_
        refine gf_X0_193 C hG.hs.o hG.hs.r1 dX0_all_57 60 rfl ?_
        refine j_iload_n C dX0_all_60 rfl 61 rfl ?_
        refine j_aald C (by decide) hG.hs.k2 (by omega) (by decide) dX0_all_61 62 rfl ?_
        rw [hG.hs.sr j (by omega)]
        change gl_J _ _ _ _ _ _ (Value.ref _ :: _)
        refine gq_X0_197 C (hG.hs.sl j (by omega)) dX0_all_62 65 rfl ?_
        cases hq : R (1 + 121 + j) 0
        · refine j_ifnonnullN C dX0_all_65 68 rfl ?_
          refine j_iconst (v := nI 0) C dX0_all_68 (by decide) 69 rfl ?_
          refine j_goto (tgt := 73) C dX0_all_69 (by decide) ?_
          refine n_iadd C dX0_all_73 74 rfl ?_
          refine j_istore_n C dX0_all_74 (Nat.le_of_ble_eq_true rfl) (by rw [hnL]; decide) rfl 75 rfl ?_
          refine n_iinc C dX0_all_75 rfl (by rw [hnL]; decide) rfl 78 rfl ?_
          refine j_goto (tgt := 46) C dX0_all_78 (by decide) ?_
          have e := gl_ct_f (ok := fun s => (R (1 + 121 + s) 0).isSome) (j := j) (by show (R (1 + 121 + j) 0).isSome = false; rw [hq]; rfl)
          have := ih (j + 1) (by omega)
          rw [e] at this
          exact this
        · refine j_ifnonnull C 72 dX0_all_65 (by decide) ?_
          refine j_iconst (v := nI 1) C dX0_all_72 (by decide) 73 rfl ?_
          refine n_iadd C dX0_all_73 74 rfl ?_
          refine j_istore_n C dX0_all_74 (Nat.le_of_ble_eq_true rfl) (by rw [hnL]; decide) rfl 75 rfl ?_
          refine n_iinc C dX0_all_75 rfl (by rw [hnL]; decide) rfl 78 rfl ?_
          refine j_goto (tgt := 46) C dX0_all_78 (by decide) ?_
          have e := gl_ct_t (ok := fun s => (R (1 + 121 + s) 0).isSome) (j := j) (by show (R (1 + 121 + j) 0).isSome = true; rw [hq]; rfl)
          have := ih (j + 1) (by omega)
          rw [e] at this
          exact this
  have loop2 : w = nI 2 → ∀ k j : Nat, j + k = 12 → gl_J κ 0 0 (Λ, I, L, B, R) 85 [some (.ref 0), some (.int (nI 2)), some (.int (nI ((gl_ct (fun r => B (1 + 137 + 4 * r) 6)) j))), some (.int (nI j))] [] := by
    intro hw_
    subst hw_
    intro k
    induction k with
    | zero =>
      intro j hj
      have hjN : j = 12 := by omega
      refine j_iload_n C dX0_all_85 rfl 86 rfl ?_
      refine j_bipush (v := nI 12) C dX0_all_86 (by decide) 88 rfl ?_
      refine n_icmp_ge C 120 91 dX0_all_88 (by decide) rfl (by omega) (by omega) (fun c_88 => ?_) (fun c_88 => ?_)
      · refine j_iload_n C dX0_all_120 rfl 121 rfl ?_
        exact j_iret C hQ ⟨by rw [if_neg (by decide), if_neg (by decide), if_pos rfl, hjN], rfl⟩ (by omega) (by omega) dX0_all_121
      · exact absurd c_88 (by omega)
    | succ k ih =>
      intro j hj
      refine j_iload_n C dX0_all_85 rfl 86 rfl ?_
      refine j_bipush (v := nI 12) C dX0_all_86 (by decide) 88 rfl ?_
      refine n_icmp_ge C 120 91 dX0_all_88 (by decide) rfl (by omega) (by omega) (fun c_88 => ?_) (fun c_88 => ?_)
      · exact absurd c_88 (by omega)
      · refine j_iload_n C dX0_all_91 rfl 92 rfl ?_
        refine j_aload_n C dX0_all_92 rfl 93 rfl ?_
        refine gf_X0_12 C hG.o hG.r0 dX0_all_93 96 rfl ?_
        refine gf_X0_302 C hG.hs.o hG.hs.r2 dX0_all_96 99 rfl ?_
        refine j_iload_n C dX0_all_99 rfl 100 rfl ?_
        refine j_aald C (by decide) hG.hs.k3 (by omega) (by decide) dX0_all_100 101 rfl ?_
        rw [hG.hs.hr j (by omega)]
        change gl_J _ _ _ _ _ _ (Value.ref _ :: _)
        refine gf_X0_121 C (hG.hs.hd j (by omega)).o dX0_all_101 104 rfl ?_
        refine b_if_eq C 111 107 dX0_all_104 (by decide) rfl (fun c_104 => ?_) (fun c_104 => ?_)
        · refine j_iconst (v := nI 0) C dX0_all_111 (by decide) 112 rfl ?_
          refine n_iadd C dX0_all_112 113 rfl ?_
          refine j_istore_n C dX0_all_113 (Nat.le_of_ble_eq_true rfl) (by rw [hnL]; decide) rfl 114 rfl ?_
          refine n_iinc C dX0_all_114 rfl (by rw [hnL]; decide) rfl 117 rfl ?_
          refine j_goto (tgt := 85) C dX0_all_117 (by decide) ?_
          have e := gl_ct_f (ok := fun r => B (1 + 137 + 4 * r) 6) (j := j) c_104
          have := ih (j + 1) (by omega)
          rw [e] at this
          exact this
        · refine j_iconst (v := nI 1) C dX0_all_107 (by decide) 108 rfl ?_
          refine j_goto (tgt := 112) C dX0_all_108 (by decide) ?_
          refine n_iadd C dX0_all_112 113 rfl ?_
          refine j_istore_n C dX0_all_113 (Nat.le_of_ble_eq_true rfl) (by rw [hnL]; decide) rfl 114 rfl ?_
          refine n_iinc C dX0_all_114 rfl (by rw [hnL]; decide) rfl 117 rfl ?_
          refine j_goto (tgt := 85) C dX0_all_117 (by decide) ?_
          have e := gl_ct_t (ok := fun r => B (1 + 137 + 4 * r) 6) (j := j) c_104
          have := ih (j + 1) (by omega)
          rw [e] at this
          exact this
  have loop4 : w = nI 4 → ∀ k j : Nat, j + k = lm → gl_J κ 0 0 (Λ, I, L, B, R) 132 [some (.ref 0), some (.int (nI 4)), some (.int (nI ((gl_sum mn) j))), some (.int (nI j))] [] := by
    intro hw_
    subst hw_
    intro k
    induction k with
    | zero =>
      intro j hj
      have hjN : j = lm := by omega
      refine j_iload_n C dX0_all_132 rfl 133 rfl ?_
      refine j_aload_n C dX0_all_133 rfl 134 rfl ?_
      refine gf_X0_12 C hG.o hG.r0 dX0_all_134 137 rfl ?_
      refine gf_X0_53 C hG.hs.o dX0_all_137 140 rfl ?_
      rw [H.1]
      refine n_icmp_ge C 164 143 dX0_all_140 (by decide) rfl (by omega) (by omega) (fun c_140 => ?_) (fun c_140 => ?_)
      · refine j_iload_n C dX0_all_164 rfl 165 rfl ?_
        exact j_iret C hQ ⟨by rw [if_neg (by decide), if_neg (by decide), if_neg (by decide), if_neg (by decide), if_pos rfl, hjN], rfl⟩ (by omega) (by omega) dX0_all_165
      · exact absurd c_140 (by omega)
    | succ k ih =>
      intro j hj
      refine j_iload_n C dX0_all_132 rfl 133 rfl ?_
      refine j_aload_n C dX0_all_133 rfl 134 rfl ?_
      refine gf_X0_12 C hG.o hG.r0 dX0_all_134 137 rfl ?_
      refine gf_X0_53 C hG.hs.o dX0_all_137 140 rfl ?_
      rw [H.1]
      refine n_icmp_ge C 164 143 dX0_all_140 (by decide) rfl (by omega) (by omega) (fun c_140 => ?_) (fun c_140 => ?_)
      · exact absurd c_140 (by omega)
      · refine j_iload_n C dX0_all_143 rfl 144 rfl ?_
        refine j_aload_n C dX0_all_144 rfl 145 rfl ?_
        refine gf_X0_12 C hG.o hG.r0 dX0_all_145 148 rfl ?_
        refine gf_X0_65 C hG.hs.o hG.hs.r0 dX0_all_148 151 rfl ?_
        refine j_iload_n C dX0_all_151 rfl 152 rfl ?_
        refine j_aald C (by decide) hG.hs.k1 (by omega) (by decide) dX0_all_152 153 rfl ?_
        rw [hG.hs.lr j (by omega)]
        change gl_J _ _ _ _ _ _ (Value.ref _ :: _)
        refine gf_X0_69 C (hG.hs.lg j (by omega)).o dX0_all_153 156 rfl ?_
        rw [(H.2.2 j (by omega)).1]
        refine n_iadd C dX0_all_156 157 rfl ?_
        refine j_istore_n C dX0_all_157 (Nat.le_of_ble_eq_true rfl) (by rw [hnL]; decide) rfl 158 rfl ?_
        refine n_iinc C dX0_all_158 rfl (by rw [hnL]; decide) rfl 161 rfl ?_
        refine j_goto (tgt := 132) C dX0_all_161 (by decide) ?_
        exact ih (j + 1) (by omega)
  refine j_iconst (v := nI 0) C dX0_all_0 (by decide) 1 rfl ?_
  refine j_istore_n C dX0_all_1 (Nat.le_of_ble_eq_true rfl) (by rw [hnL]; decide) rfl 2 rfl ?_
  refine j_iload_n C dX0_all_2 rfl 3 rfl ?_
  rcases gl_sw w 5 (by decide) with ⟨k_, hk_, rfl⟩ | ho_
  · rcases (show k_ = 0 ∨ k_ = 1 ∨ k_ = 2 ∨ k_ = 3 ∨ k_ = 4 by omega) with rfl | rfl | rfl | rfl | rfl
    · refine j_tableIn C 36 dX0_all_3 (by decide) (by decide) rfl (by decide) ?_
      refine j_aload_n C dX0_all_36 rfl 37 rfl ?_
      refine gf_X0_12 C hG.o hG.r0 dX0_all_37 40 rfl ?_
      refine gf_X0_53 C hG.hs.o dX0_all_40 43 rfl ?_
      rw [H.1]
      exact j_iret C hQ ⟨by rw [if_pos rfl], rfl⟩ (by omega) (by omega) dX0_all_43
    · refine j_tableIn C 44 dX0_all_3 (by decide) (by decide) rfl (by decide) ?_
      refine j_iconst (v := nI 0) C dX0_all_44 (by decide) 45 rfl ?_
      refine j_istore_n C dX0_all_45 (Nat.le_of_ble_eq_true rfl) (by rw [hnL]; decide) rfl 46 rfl ?_
      exact loop1 rfl 16 0 rfl
    · refine j_tableIn C 83 dX0_all_3 (by decide) (by decide) rfl (by decide) ?_
      refine j_iconst (v := nI 0) C dX0_all_83 (by decide) 84 rfl ?_
      refine j_istore_n C dX0_all_84 (Nat.le_of_ble_eq_true rfl) (by rw [hnL]; decide) rfl 85 rfl ?_
      exact loop2 rfl 12 0 rfl
    · refine j_tableIn C 122 dX0_all_3 (by decide) (by decide) rfl (by decide) ?_
      refine j_aload_n C dX0_all_122 rfl 123 rfl ?_
      refine gf_X0_12 C hG.o hG.r0 dX0_all_123 126 rfl ?_
      refine gf_X0_321 C hG.hs.o dX0_all_126 129 rfl ?_
      rw [hbm]
      exact j_iret C hQ ⟨by rw [if_neg (by decide), if_neg (by decide), if_neg (by decide), if_pos rfl], rfl⟩ (by omega) (by omega) dX0_all_129
    · refine j_tableIn C 130 dX0_all_3 (by decide) (by decide) rfl (by decide) ?_
      refine j_iconst (v := nI 0) C dX0_all_130 (by decide) 131 rfl ?_
      refine j_istore_n C dX0_all_131 (Nat.le_of_ble_eq_true rfl) (by rw [hnL]; decide) rfl 132 rfl ?_
      exact loop4 rfl lm 0 (by omega)
  · refine j_tableOut C 166 dX0_all_3 (by omega) (by decide) ?_
    refine j_iconst (v := -1) C dX0_all_166 (by decide) 167 rfl ?_
    exact j_iret C hQ ⟨by rw [if_neg (gl_out (by decide) (by decide) ho_), if_neg (gl_out (by decide) (by decide) ho_), if_neg (gl_out (by decide) (by decide) ho_), if_neg (gl_out (by decide) (by decide) ho_), if_neg (gl_out (by decide) (by decide) ho_)], rfl⟩ (by omega) (by omega) dX0_all_167
