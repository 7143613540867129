/-! MODULE Model, watchers and all: watcher, watching, all, ints, longs, truths (by gen57.py) -/
set_option maxRecDepth 100000
def gl_watcher (I : Nat → Nat → Int32) (L : Nat → Nat → Int64) (B : Nat → Nat → Bool) (lm : Nat) (x y lo hi : Int32) : Int32 × gl_Sto := if gl_in x 8 = true ∧ gl_in y lm = true then (b2i true, (gl_mL, gl_u2 (gl_u2 (gl_u2 (gl_u2 (gl_u2 I 16 (5 * x.toNatClampNeg) y) 16 (5 * x.toNatClampNeg + 1) lo) 16 (5 * x.toNatClampNeg + 2) hi) 16 (5 * x.toNatClampNeg + 3) (nI 0)) 16 (5 * x.toNatClampNeg + 4) (nI 0), L, gl_u2 B 17 x.toNatClampNeg true, gl_mR)) else (b2i false, (gl_mL, I, L, B, gl_mR))
def gl_watching (I : Nat → Nat → Int32) (B : Nat → Nat → Bool) (x w : Int32) : Int32 := if gl_in x 8 = true ∧ B 17 x.toNatClampNeg = true then (if w = 0 then I 16 (5 * x.toNatClampNeg + 3) else if w = nI 1 then I 16 (5 * x.toNatClampNeg + 4) else if w = nI 2 then I 16 (5 * x.toNatClampNeg) else -1) else -1
def gl_ct (g : Nat → Bool) : Nat → Nat
  | 0 => 0
  | j + 1 => if g j = true then gl_ct g j + 1 else gl_ct g j
def gl_sum (f : Nat → Nat) : Nat → Nat
  | 0 => 0
  | j + 1 => gl_sum f j + f j
def gl_all (B : Nat → Nat → Bool) (lm bm : Nat) (mn kd : Nat → Nat) (w : Int32) : Int32 := if w = nI 0 then nI lm else if w = nI 1 then nI (gl_ct (fun s => decide (kd s ≠ 0)) 16) else if w = nI 2 then nI (gl_ct (B 14) 12) else if w = nI 3 then nI bm else if w = nI 4 then nI (gl_sum mn lm) else -1
set_option maxHeartbeats 4000000 in
set_option maxRecDepth 100000 in
theorem ct_X9_watcher {l : Launch} {δ : gl_Del} {I : Nat → Nat → Int32} {L : Nat → Nat → Int64} {B : Nat → Nat → Bool} {lm : Nat} {x y lo hi : Int32} (h : Nat) (hh : 2 ≤ h) (hlm : I 0 1 = nI lm) : gl_Ct l δ yX9_watcher (ws_ yX9_watcher cX9_watcher 5 ((some FieldType.boolean))) (gl_rm h 0 0) 0 0 [.ref 0, .int x, .int y, .int lo, .int hi] (gl_mL, I, L, B, gl_mR) (gl_Qi fun r S => (r, S) = gl_watcher I L B lm x y lo hi) := by
  refine gl_of (by decide) (Nat.le_of_ble_eq_true rfl) rfl ?_
  intro κ C hQ hlκ hδκ hnL hini
  change gl_Cx κ RX9 _ _ _ at C
  refine j_aload_n C dX9_watcher_0 rfl 1 rfl ?_
  refine j_iload_n C dX9_watcher_1 rfl 2 rfl ?_
  refine j_ci C (cs_X9_353 C (ct_X9_isWatcher (h - 1) (by omega)) rfl rfl (by omega) (by omega) (by omega) rfl (Nat.le_of_ble_eq_true rfl) dX9_watcher_2) 5 rfl ?_
  rintro _ _ ⟨rfl, rfl⟩
  refine b_if_eq C 16 8 dX9_watcher_5 (by decide) rfl (fun c_5 => ?_) (fun c_5 => ?_)
  · refine j_iconst (v := b2i false) C dX9_watcher_16 (by decide) 17 rfl ?_
    exact j_zret C hQ (by rw [gl_watcher, if_neg (fun q => by rw [c_5] at q; cases q.1)]) (by omega) (by omega) dX9_watcher_17
  · obtain ⟨a, ha, rfl⟩ := (gl_in_iff (by decide)).mp c_5
    have hca : (nI a).toNatClampNeg = a := nI_clamp (by omega)
    refine j_aload_n C dX9_watcher_8 rfl 9 rfl ?_
    refine j_iload_n C dX9_watcher_9 rfl 10 rfl ?_
    refine j_ci C (cs_X9_270 C (ct_X9_isLog (h - 1) (by omega) hlm) rfl rfl (by omega) (by omega) (by omega) rfl (Nat.le_of_ble_eq_true rfl) dX9_watcher_10) 13 rfl ?_
    rintro _ _ ⟨rfl, rfl⟩
    refine b_if_ne C 18 16 dX9_watcher_13 (by decide) rfl (fun c_13 => ?_) (fun c_13 => ?_)
    · refine j_aload_n C dX9_watcher_18 rfl 19 rfl ?_
      refine gf_X9_61 C rfl rfl dX9_watcher_19 22 rfl ?_
      refine j_iload_n C dX9_watcher_22 rfl 23 rfl ?_
      refine j_iconst (v := b2i true) C dX9_watcher_23 (by decide) 24 rfl ?_
      refine j_zast C rfl (by omega) (by decide) dX9_watcher_24 25 rfl ?_
      refine j_aload_n C dX9_watcher_25 rfl 26 rfl ?_
      refine gf_X9_58 C rfl rfl dX9_watcher_26 29 rfl ?_
      refine j_iconst (v := nI 5) C dX9_watcher_29 (by decide) 30 rfl ?_
      refine j_iload_n C dX9_watcher_30 rfl 31 rfl ?_
      refine n_imul C dX9_watcher_31 32 rfl ?_
      refine j_iload_n C dX9_watcher_32 rfl 33 rfl ?_
      refine j_iast C rfl (by omega) (by decide) dX9_watcher_33 34 rfl ?_
      refine j_aload_n C dX9_watcher_34 rfl 35 rfl ?_
      refine gf_X9_58 C rfl rfl dX9_watcher_35 38 rfl ?_
      refine j_iconst (v := nI 5) C dX9_watcher_38 (by decide) 39 rfl ?_
      refine j_iload_n C dX9_watcher_39 rfl 40 rfl ?_
      refine n_imul C dX9_watcher_40 41 rfl ?_
      refine j_iconst (v := nI 1) C dX9_watcher_41 (by decide) 42 rfl ?_
      refine n_iadd C dX9_watcher_42 43 rfl ?_
      refine j_iload_n C dX9_watcher_43 rfl 44 rfl ?_
      refine j_iast C rfl (by omega) (by decide) dX9_watcher_44 45 rfl ?_
      refine j_aload_n C dX9_watcher_45 rfl 46 rfl ?_
      refine gf_X9_58 C rfl rfl dX9_watcher_46 49 rfl ?_
      refine j_iconst (v := nI 5) C dX9_watcher_49 (by decide) 50 rfl ?_
      refine j_iload_n C dX9_watcher_50 rfl 51 rfl ?_
      refine n_imul C dX9_watcher_51 52 rfl ?_
      refine j_iconst (v := nI 2) C dX9_watcher_52 (by decide) 53 rfl ?_
      refine n_iadd C dX9_watcher_53 54 rfl ?_
      refine j_iload C dX9_watcher_54 rfl 56 rfl ?_
      refine j_iast C rfl (by omega) (by decide) dX9_watcher_56 57 rfl ?_
      refine j_aload_n C dX9_watcher_57 rfl 58 rfl ?_
      refine gf_X9_58 C rfl rfl dX9_watcher_58 61 rfl ?_
      refine j_iconst (v := nI 5) C dX9_watcher_61 (by decide) 62 rfl ?_
      refine j_iload_n C dX9_watcher_62 rfl 63 rfl ?_
      refine n_imul C dX9_watcher_63 64 rfl ?_
      refine j_iconst (v := nI 3) C dX9_watcher_64 (by decide) 65 rfl ?_
      refine n_iadd C dX9_watcher_65 66 rfl ?_
      refine j_iconst (v := nI 0) C dX9_watcher_66 (by decide) 67 rfl ?_
      refine j_iast C rfl (by omega) (by decide) dX9_watcher_67 68 rfl ?_
      refine j_aload_n C dX9_watcher_68 rfl 69 rfl ?_
      refine gf_X9_58 C rfl rfl dX9_watcher_69 72 rfl ?_
      refine j_iconst (v := nI 5) C dX9_watcher_72 (by decide) 73 rfl ?_
      refine j_iload_n C dX9_watcher_73 rfl 74 rfl ?_
      refine n_imul C dX9_watcher_74 75 rfl ?_
      refine j_iconst (v := nI 4) C dX9_watcher_75 (by decide) 76 rfl ?_
      refine n_iadd C dX9_watcher_76 77 rfl ?_
      refine j_iconst (v := nI 0) C dX9_watcher_77 (by decide) 78 rfl ?_
      refine j_iast C rfl (by omega) (by decide) dX9_watcher_78 79 rfl ?_
      refine j_iconst (v := b2i true) C dX9_watcher_79 (by decide) 80 rfl ?_
      exact j_zret C hQ (by rw [gl_watcher, if_pos ⟨c_5, c_13⟩, hca]) (by omega) (by omega) dX9_watcher_80
    · refine j_iconst (v := b2i false) C dX9_watcher_16 (by decide) 17 rfl ?_
      exact j_zret C hQ (by rw [gl_watcher, if_neg (fun q => by rw [c_13] at q; cases q.2)]) (by omega) (by omega) dX9_watcher_17
set_option maxHeartbeats 4000000 in
set_option maxRecDepth 100000 in
theorem ct_X9_watching {l : Launch} {δ : gl_Del} {I : Nat → Nat → Int32} {L : Nat → Nat → Int64} {B : Nat → Nat → Bool} {x w : Int32} (h : Nat) (hh : 2 ≤ h)  : gl_Ct l δ yX9_watching (ws_ yX9_watching cX9_watching 3 ((some FieldType.int))) (gl_rm h 0 0) 0 0 [.ref 0, .int x, .int w] (gl_mL, I, L, B, gl_mR) (gl_Qi fun r S => r = gl_watching I B x w ∧ S = (gl_mL, I, L, B, gl_mR)) := by
  refine gl_of (by decide) (Nat.le_of_ble_eq_true rfl) rfl ?_
  intro κ C hQ hlκ hδκ hnL hini
  change gl_Cx κ RX9 _ _ _ at C
  refine j_aload_n C dX9_watching_0 rfl 1 rfl ?_
  refine j_iload_n C dX9_watching_1 rfl 2 rfl ?_
  refine j_ci C (cs_X9_353 C (ct_X9_isWatcher (h - 1) (by omega)) rfl rfl (by omega) (by omega) (by omega) rfl (Nat.le_of_ble_eq_true rfl) dX9_watching_2) 5 rfl ?_
  rintro _ _ ⟨rfl, rfl⟩
  refine b_if_eq C 17 8 dX9_watching_5 (by decide) rfl (fun c_5 => ?_) (fun c_5 => ?_)
  · refine j_iconst (v := -1) C dX9_watching_17 (by decide) 18 rfl ?_
    exact j_iret C hQ ⟨by rw [gl_watching, if_neg (fun q => by rw [c_5] at q; cases q.1)], rfl⟩ (by omega) (by omega) dX9_watching_18
  · obtain ⟨a, ha, rfl⟩ := (gl_in_iff (by decide)).mp c_5
    have hca : (nI a).toNatClampNeg = a := nI_clamp (by omega)
    refine j_aload_n C dX9_watching_8 rfl 9 rfl ?_
    refine gf_X9_61 C rfl rfl dX9_watching_9 12 rfl ?_
    refine j_iload_n C dX9_watching_12 rfl 13 rfl ?_
    refine j_zald C rfl (by omega) (by decide) dX9_watching_13 14 rfl ?_
    refine b_if_ne C 19 17 dX9_watching_14 (by decide) rfl (fun c_14 => ?_) (fun c_14 => ?_)
    · refine j_iload_n C dX9_watching_19 rfl 20 rfl ?_
      refine j_if_ne C 36 23 dX9_watching_20 (by decide) rfl (fun c_20 => ?_) (fun c_20 => ?_)
      · refine j_iload_n C dX9_watching_36 rfl 37 rfl ?_
        refine j_iconst (v := nI 1) C dX9_watching_37 (by decide) 38 rfl ?_
        refine j_icmp_ne C 54 41 dX9_watching_38 (by decide) rfl (fun c_38 => ?_) (fun c_38 => ?_)
        · refine j_iload_n C dX9_watching_54 rfl 55 rfl ?_
          refine j_iconst (v := nI 2) C dX9_watching_55 (by decide) 56 rfl ?_
          refine j_icmp_ne C 70 59 dX9_watching_56 (by decide) rfl (fun c_56 => ?_) (fun c_56 => ?_)
          · refine j_iconst (v := -1) C dX9_watching_70 (by decide) 71 rfl ?_
            exact j_iret C hQ ⟨by rw [gl_watching, if_pos ⟨c_5, by rw [hca]; exact c_14⟩, hca, if_neg c_20, if_neg c_38, if_neg c_56], rfl⟩ (by omega) (by omega) dX9_watching_71
          · refine j_aload_n C dX9_watching_59 rfl 60 rfl ?_
            refine gf_X9_58 C rfl rfl dX9_watching_60 63 rfl ?_
            refine j_iconst (v := nI 5) C dX9_watching_63 (by decide) 64 rfl ?_
            refine j_iload_n C dX9_watching_64 rfl 65 rfl ?_
            refine n_imul C dX9_watching_65 66 rfl ?_
            refine j_iald C rfl (by omega) (by decide) dX9_watching_66 67 rfl ?_
            refine j_goto (tgt := 71) C dX9_watching_67 (by decide) ?_
            exact j_iret C hQ ⟨by rw [gl_watching, if_pos ⟨c_5, by rw [hca]; exact c_14⟩, hca, if_neg c_20, if_neg c_38, if_pos c_56], rfl⟩ (by omega) (by omega) dX9_watching_71
        · refine j_aload_n C dX9_watching_41 rfl 42 rfl ?_
          refine gf_X9_58 C rfl rfl dX9_watching_42 45 rfl ?_
          refine j_iconst (v := nI 5) C dX9_watching_45 (by decide) 46 rfl ?_
          refine j_iload_n C dX9_watching_46 rfl 47 rfl ?_
          refine n_imul C dX9_watching_47 48 rfl ?_
          refine j_iconst (v := nI 4) C dX9_watching_48 (by decide) 49 rfl ?_
          refine n_iadd C dX9_watching_49 50 rfl ?_
          refine j_iald C rfl (by omega) (by decide) dX9_watching_50 51 rfl ?_
          refine j_goto (tgt := 71) C dX9_watching_51 (by decide) ?_
          exact j_iret C hQ ⟨by rw [gl_watching, if_pos ⟨c_5, by rw [hca]; exact c_14⟩, hca, if_neg c_20, if_pos c_38], rfl⟩ (by omega) (by omega) dX9_watching_71
      · refine j_aload_n C dX9_watching_23 rfl 24 rfl ?_
        refine gf_X9_58 C rfl rfl dX9_watching_24 27 rfl ?_
        refine j_iconst (v := nI 5) C dX9_watching_27 (by decide) 28 rfl ?_
        refine j_iload_n C dX9_watching_28 rfl 29 rfl ?_
        refine n_imul C dX9_watching_29 30 rfl ?_
        refine j_iconst (v := nI 3) C dX9_watching_30 (by decide) 31 rfl ?_
        refine n_iadd C dX9_watching_31 32 rfl ?_
        refine j_iald C rfl (by omega) (by decide) dX9_watching_32 33 rfl ?_
        refine j_goto (tgt := 71) C dX9_watching_33 (by decide) ?_
        exact j_iret C hQ ⟨by rw [gl_watching, if_pos ⟨c_5, by rw [hca]; exact c_14⟩, hca, if_pos c_20], rfl⟩ (by omega) (by omega) dX9_watching_71
    · refine j_iconst (v := -1) C dX9_watching_17 (by decide) 18 rfl ?_
      exact j_iret C hQ ⟨by rw [gl_watching, if_neg (fun q => by rw [hca, c_14] at q; cases q.2)], rfl⟩ (by omega) (by omega) dX9_watching_18
set_option maxHeartbeats 4000000 in
set_option maxRecDepth 100000 in
theorem ct_X9_all {l : Launch} {δ : gl_Del} {I : Nat → Nat → Int32} {L : Nat → Nat → Int64} {B : Nat → Nat → Bool} {lm : Nat} {mn hd ld : Nat → Nat} {sn : Nat → Nat → Nat} {bm : Nat} {kd sm nn fa sb : Nat → Nat} {w : Int32} (h : Nat) (hh : 2 ≤ h) (H : gl_LI I lm mn hd ld sn) (P : gl_SI I kd sm nn fa sb) (hbm : I 0 16 = nI bm) : gl_Ct l δ yX9_all (ws_ yX9_all cX9_all 4 ((some FieldType.int))) (gl_rm h 0 0) 0 0 [.ref 0, .int w] (gl_mL, I, L, B, gl_mR) (gl_Qi fun r S => r = gl_all B lm bm mn kd w ∧ S = (gl_mL, I, L, B, gl_mR)) := by
  refine gl_of (by decide) (Nat.le_of_ble_eq_true rfl) rfl ?_
  intro κ C hQ hlκ hδκ hnL hini
  change gl_Cx κ RX9 _ _ _ at C
  have hlm6 : lm ≤ 6 := H.2.1
  refine j_iconst (v := nI 0) C dX9_all_0 (by decide) 1 rfl ?_
  refine j_istore_n C dX9_all_1 (Nat.le_of_ble_eq_true rfl) (by rw [hnL]; decide) rfl 2 rfl ?_
  refine j_iload_n C dX9_all_2 rfl 3 rfl ?_
  rcases gl_sw w 5 (by decide) with ⟨k_, hk_, rfl⟩ | ho_
  · rcases (show k_ = 0 ∨ k_ = 1 ∨ k_ = 2 ∨ k_ = 3 ∨ k_ = 4 by omega) with rfl | rfl | rfl | rfl | rfl
    · refine j_tableIn C 36 dX9_all_3 (by decide) (by decide) rfl (by decide) ?_
      refine j_aload_n C dX9_all_36 rfl 37 rfl ?_
      refine gf_X9_267 C rfl dX9_all_37 40 rfl ?_
      rw [H.1]
      exact j_iret C hQ ⟨by rw [gl_all, if_pos rfl], rfl⟩ (by omega) (by omega) dX9_all_40
    · refine j_tableIn C 41 dX9_all_3 (by decide) (by decide) rfl (by decide) ?_
      have loop1 : ∀ k j : Nat, j + k = 16 → gl_J κ 0 0 (gl_mL, I, L, B, gl_mR) 43 [some (.ref 0), some (.int (nI 1)), some (.int (nI (gl_ct (fun s => decide (kd s ≠ 0)) j))), some (.int (nI j))] [] := by
        intro k
        induction k with
        | zero =>
          intro j hj
          have hjN : j = 16 := by omega
          subst hjN
          refine j_iload_n C dX9_all_43 rfl 44 rfl ?_
          refine j_bipush (v := nI 16) C dX9_all_44 (by decide) 46 rfl ?_
          refine n_icmp_ge C 70 49 dX9_all_46 (by decide) rfl (by omega) (by omega) (fun c_46 => ?_) (fun c_46 => ?_)
          · refine j_iload_n C dX9_all_70 rfl 71 rfl ?_
            exact j_iret C hQ ⟨by rw [gl_all, if_neg (by decide), if_pos rfl], rfl⟩ (by omega) (by omega) dX9_all_71
          · exact absurd c_46 (by omega)
        | succ k ih =>
          intro j hj
          refine j_iload_n C dX9_all_43 rfl 44 rfl ?_
          refine j_bipush (v := nI 16) C dX9_all_44 (by decide) 46 rfl ?_
          refine n_icmp_ge C 70 49 dX9_all_46 (by decide) rfl (by omega) (by omega) (fun c_46 => ?_) (fun c_46 => ?_)
          · exact absurd c_46 (by omega)
          · refine j_aload_n C dX9_all_49 rfl 50 rfl ?_
            refine gf_X9_36 C rfl rfl dX9_all_50 53 rfl ?_
            refine j_bipush (v := nI 8) C dX9_all_53 (by decide) 55 rfl ?_
            refine j_iload_n C dX9_all_55 rfl 56 rfl ?_
            refine n_imul C dX9_all_56 57 rfl ?_
            refine j_iald C rfl (by omega) (by decide) dX9_all_57 58 rfl ?_
            rw [(P j (by omega)).1]
            refine j_if_le C 64 61 dX9_all_58 (by decide) rfl (fun c_58 => ?_) (fun c_58 => ?_)
            · have e0 : kd j = 0 := by
                have := (nI_leI (b := 0) (by have := (P j (by omega)).2.1; omega) (by omega)).mp c_58
                omega
              refine n_iinc C dX9_all_64 rfl (by rw [hnL]; decide) rfl 67 rfl ?_
              refine j_goto (tgt := 43) C dX9_all_67 (by decide) ?_
              have e : gl_ct (fun s => decide (kd s ≠ 0)) (j + 1) = gl_ct (fun s => decide (kd s ≠ 0)) j := if_neg (by simp [e0])
              rw [← e]
              exact ih (j + 1) (by omega)
            · have e0 : ¬ kd j = 0 := fun q => c_58 (by rw [q]; decide)
              refine n_iinc C dX9_all_61 rfl (by rw [hnL]; decide) rfl 64 rfl ?_
              refine n_iinc C dX9_all_64 rfl (by rw [hnL]; decide) rfl 67 rfl ?_
              refine j_goto (tgt := 43) C dX9_all_67 (by decide) ?_
              have e : gl_ct (fun s => decide (kd s ≠ 0)) (j + 1) = gl_ct (fun s => decide (kd s ≠ 0)) j + 1 := if_pos (by simp [e0])
              rw [← e]
              exact ih (j + 1) (by omega)
      refine j_iconst (v := nI 0) C dX9_all_41 (by decide) 42 rfl ?_
      refine j_istore_n C dX9_all_42 (Nat.le_of_ble_eq_true rfl) (by rw [hnL]; decide) rfl 43 rfl ?_
      exact loop1 16 0 rfl
    · refine j_tableIn C 72 dX9_all_3 (by decide) (by decide) rfl (by decide) ?_
      have loop2 : ∀ k j : Nat, j + k = 12 → gl_J κ 0 0 (gl_mL, I, L, B, gl_mR) 74 [some (.ref 0), some (.int (nI 2)), some (.int (nI (gl_ct (B 14) j))), some (.int (nI j))] [] := by
        intro k
        induction k with
        | zero =>
          intro j hj
          have hjN : j = 12 := by omega
          subst hjN
          refine j_iload_n C dX9_all_74 rfl 75 rfl ?_
          refine j_bipush (v := nI 12) C dX9_all_75 (by decide) 77 rfl ?_
          refine n_icmp_ge C 98 80 dX9_all_77 (by decide) rfl (by omega) (by omega) (fun c_77 => ?_) (fun c_77 => ?_)
          · refine j_iload_n C dX9_all_98 rfl 99 rfl ?_
            exact j_iret C hQ ⟨by rw [gl_all, if_neg (by decide), if_neg (by decide), if_pos rfl], rfl⟩ (by omega) (by omega) dX9_all_99
          · exact absurd c_77 (by omega)
        | succ k ih =>
          intro j hj
          refine j_iload_n C dX9_all_74 rfl 75 rfl ?_
          refine j_bipush (v := nI 12) C dX9_all_75 (by decide) 77 rfl ?_
          refine n_icmp_ge C 98 80 dX9_all_77 (by decide) rfl (by omega) (by omega) (fun c_77 => ?_) (fun c_77 => ?_)
          · exact absurd c_77 (by omega)
          · refine j_aload_n C dX9_all_80 rfl 81 rfl ?_
            refine gf_X9_52 C rfl rfl dX9_all_81 84 rfl ?_
            refine j_iload_n C dX9_all_84 rfl 85 rfl ?_
            refine j_zald C rfl (by omega) (by decide) dX9_all_85 86 rfl ?_
            refine b_if_eq C 92 89 dX9_all_86 (by decide) rfl (fun c_86 => ?_) (fun c_86 => ?_)
            · refine n_iinc C dX9_all_92 rfl (by rw [hnL]; decide) rfl 95 rfl ?_
              refine j_goto (tgt := 74) C dX9_all_95 (by decide) ?_
              have e : gl_ct (B 14) (j + 1) = gl_ct (B 14) j := if_neg (by rw [c_86]; decide)
              rw [← e]
              exact ih (j + 1) (by omega)
            · refine n_iinc C dX9_all_89 rfl (by rw [hnL]; decide) rfl 92 rfl ?_
              refine n_iinc C dX9_all_92 rfl (by rw [hnL]; decide) rfl 95 rfl ?_
              refine j_goto (tgt := 74) C dX9_all_95 (by decide) ?_
              have e : gl_ct (B 14) (j + 1) = gl_ct (B 14) j + 1 := if_pos c_86
              rw [← e]
              exact ih (j + 1) (by omega)
      refine j_iconst (v := nI 0) C dX9_all_72 (by decide) 73 rfl ?_
      refine j_istore_n C dX9_all_73 (Nat.le_of_ble_eq_true rfl) (by rw [hnL]; decide) rfl 74 rfl ?_
      exact loop2 12 0 rfl
    · refine j_tableIn C 100 dX9_all_3 (by decide) (by decide) rfl (by decide) ?_
      refine j_aload_n C dX9_all_100 rfl 101 rfl ?_
      refine gf_X9_336 C rfl dX9_all_101 104 rfl ?_
      rw [hbm]
      exact j_iret C hQ ⟨by rw [gl_all, if_neg (by decide), if_neg (by decide), if_neg (by decide), if_pos rfl], rfl⟩ (by omega) (by omega) dX9_all_104
    · refine j_tableIn C 105 dX9_all_3 (by decide) (by decide) rfl (by decide) ?_
      have loop4 : ∀ k j : Nat, j + k = lm → gl_J κ 0 0 (gl_mL, I, L, B, gl_mR) 107 [some (.ref 0), some (.int (nI 4)), some (.int (nI (gl_sum mn j))), some (.int (nI j))] [] := by
        intro k
        induction k with
        | zero =>
          intro j hj
          have hjN : j = lm := by omega
          subst hjN
          refine j_iload_n C dX9_all_107 rfl 108 rfl ?_
          refine j_aload_n C dX9_all_108 rfl 109 rfl ?_
          refine gf_X9_267 C rfl dX9_all_109 112 rfl ?_
          rw [H.1]
          refine n_icmp_ge C 129 115 dX9_all_112 (by decide) rfl (by omega) (by omega) (fun c_112 => ?_) (fun c_112 => ?_)
          · refine j_iload_n C dX9_all_129 rfl 130 rfl ?_
            exact j_iret C hQ ⟨by rw [gl_all, if_neg (by decide), if_neg (by decide), if_neg (by decide), if_neg (by decide), if_pos rfl], rfl⟩ (by omega) (by omega) dX9_all_130
          · exact absurd c_112 (by omega)
        | succ k ih =>
          intro j hj
          refine j_iload_n C dX9_all_107 rfl 108 rfl ?_
          refine j_aload_n C dX9_all_108 rfl 109 rfl ?_
          refine gf_X9_267 C rfl dX9_all_109 112 rfl ?_
          rw [H.1]
          refine n_icmp_ge C 129 115 dX9_all_112 (by decide) rfl (by omega) (by omega) (fun c_112 => ?_) (fun c_112 => ?_)
          · exact absurd c_112 (by omega)
          · refine j_iload_n C dX9_all_115 rfl 116 rfl ?_
            refine j_aload_n C dX9_all_116 rfl 117 rfl ?_
            refine j_iload_n C dX9_all_117 rfl 118 rfl ?_
            refine j_ci C (cs_X9_274 C (ct_X9_many (h - 1) (by omega) (by omega)) rfl rfl (by omega) (by omega) (by omega) rfl (Nat.le_of_ble_eq_true rfl) dX9_all_118) 121 rfl ?_
            rintro _ _ ⟨rfl, rfl⟩
            rw [(H.2.2 j (by omega)).1]
            refine n_iadd C dX9_all_121 122 rfl ?_
            refine j_istore_n C dX9_all_122 (Nat.le_of_ble_eq_true rfl) (by rw [hnL]; decide) rfl 123 rfl ?_
            refine n_iinc C dX9_all_123 rfl (by rw [hnL]; decide) rfl 126 rfl ?_
            refine j_goto (tgt := 107) C dX9_all_126 (by decide) ?_
            exact ih (j + 1) (by omega)
      refine j_iconst (v := nI 0) C dX9_all_105 (by decide) 106 rfl ?_
      refine j_istore_n C dX9_all_106 (Nat.le_of_ble_eq_true rfl) (by rw [hnL]; decide) rfl 107 rfl ?_
      exact loop4 lm 0 (by omega)
  · refine j_tableOut C 131 dX9_all_3 (by omega) (by decide) ?_
    refine j_iconst (v := -1) C dX9_all_131 (by decide) 132 rfl ?_
    exact j_iret C hQ ⟨by rw [gl_all, if_neg (gl_out (n := 5) (by decide) (by decide) ho_), if_neg (gl_out (n := 5) (by decide) (by decide) ho_), if_neg (gl_out (n := 5) (by decide) (by decide) ho_), if_neg (gl_out (n := 5) (by decide) (by decide) ho_), if_neg (gl_out (n := 5) (by decide) (by decide) ho_)], rfl⟩ (by omega) (by omega) dX9_all_132
theorem gl_cpyg {α : Type} {a b : Nat → α} {k : Nat} : va_up (va_cpy a b 0 0 k) k (a k) = va_cpy a b 0 0 (k + 1) := by
  have := gl_cpy_sG (a := a) (b := b) (dp := 0) (k := k)
  rw [Nat.zero_add] at this
  exact this
theorem gl_cpyg0 {α : Type} {a b : Nat → α} {d : Nat} : va_cpy a b 0 d 0 = b := by
  funext k; unfold va_cpy; exact if_neg (by omega)
set_option maxHeartbeats 4000000 in
set_option maxRecDepth 100000 in
theorem ct_X9_ints {l : Launch} {δ : gl_Del} {Λ : Nat × (Nat → Nat × Nat)} {R : Nat → Nat → Option Nat} {I : Nat → Nat → Int32} {L : Nat → Nat → Int64} {B : Nat → Nat → Bool} {x y n : Nat} (h : Nat) (hh : 1 ≤ h) (hx : Λ.2 x = (0, n)) (hy : Λ.2 y = (0, n)) (hn : n < 2 ^ 31) (hxy : x ≠ y) : gl_Ct l δ yX9_ints (ws_ yX9_ints cX9_ints 3 none) (gl_rm h 0 0) 0 0 [.ref x, .ref y] (Λ, I, L, B, R) (gl_Qv fun S => S = (Λ, va_up I y (va_cpy (I x) (I y) 0 0 n), L, B, R)) := by
  refine gl_of (by decide) (Nat.le_of_ble_eq_true rfl) rfl ?_
  intro κ C hQ hlκ hδκ hnL hini
  change gl_Cx κ RX9 _ _ _ at C
  have loop : ∀ k j : Nat, j + k = n → gl_J κ 0 0 (Λ, va_up I y (va_cpy (I x) (I y) 0 0 j), L, B, R) 2 [some (.ref x), some (.ref y), some (.int (nI j))] [] := by
    intro k
    induction k with
    | zero =>
      intro j hj
      have hjN : j = n := by omega
      subst hjN
      refine j_iload_n C dX9_ints_2 rfl 3 rfl ?_
      refine j_aload_n C dX9_ints_3 rfl 4 rfl ?_
      refine j_alen C (by decide) hx dX9_ints_4 5 rfl ?_
      refine n_icmp_ge C 20 8 dX9_ints_5 (by decide) rfl (by omega) (by omega) (fun c_5 => ?_) (fun c_5 => ?_)
      · exact j_ret C hQ rfl (by omega) (by omega) dX9_ints_20
      · exact absurd c_5 (by omega)
    | succ k ih =>
      intro j hj
      refine j_iload_n C dX9_ints_2 rfl 3 rfl ?_
      refine j_aload_n C dX9_ints_3 rfl 4 rfl ?_
      refine j_alen C (by decide) hx dX9_ints_4 5 rfl ?_
      refine n_icmp_ge C 20 8 dX9_ints_5 (by decide) rfl (by omega) (by omega) (fun c_5 => ?_) (fun c_5 => ?_)
      · exact absurd c_5 (by omega)
      · refine j_aload_n C dX9_ints_8 rfl 9 rfl ?_
        refine j_iload_n C dX9_ints_9 rfl 10 rfl ?_
        refine j_aload_n C dX9_ints_10 rfl 11 rfl ?_
        refine j_iload_n C dX9_ints_11 rfl 12 rfl ?_
        refine j_iald C hx (by omega) hn dX9_ints_12 13 rfl ?_
        rw [gl_up_ne hxy]
        refine j_iast C hy (by omega) hn dX9_ints_13 14 rfl ?_
        refine n_iinc C dX9_ints_14 rfl (by rw [hnL]; decide) rfl 17 rfl ?_
        refine j_goto (tgt := 2) C dX9_ints_17 (by decide) ?_
        rw [gl_u2_up, gl_cpyg]
        exact ih (j + 1) (by omega)
  refine j_iconst (v := nI 0) C dX9_ints_0 (by decide) 1 rfl ?_
  refine j_istore_n C dX9_ints_1 (Nat.le_of_ble_eq_true rfl) (by rw [hnL]; decide) rfl 2 rfl ?_
  have := loop n 0 (by omega)
  rw [gl_cpyg0, gl_up_self] at this
  exact this
set_option maxHeartbeats 4000000 in
set_option maxRecDepth 100000 in
theorem ct_X9_longs {l : Launch} {δ : gl_Del} {Λ : Nat × (Nat → Nat × Nat)} {R : Nat → Nat → Option Nat} {I : Nat → Nat → Int32} {L : Nat → Nat → Int64} {B : Nat → Nat → Bool} {x y n : Nat} (h : Nat) (hh : 1 ≤ h) (hx : Λ.2 x = (2, n)) (hy : Λ.2 y = (2, n)) (hn : n < 2 ^ 31) (hxy : x ≠ y) : gl_Ct l δ yX9_longs (ws_ yX9_longs cX9_longs 3 none) (gl_rm h 0 0) 0 0 [.ref x, .ref y] (Λ, I, L, B, R) (gl_Qv fun S => S = (Λ, I, va_up L y (va_cpy (L x) (L y) 0 0 n), B, R)) := by
  refine gl_of (by decide) (Nat.le_of_ble_eq_true rfl) rfl ?_
  intro κ C hQ hlκ hδκ hnL hini
  change gl_Cx κ RX9 _ _ _ at C
  have loop : ∀ k j : Nat, j + k = n → gl_J κ 0 0 (Λ, I, va_up L y (va_cpy (L x) (L y) 0 0 j), B, R) 2 [some (.ref x), some (.ref y), some (.int (nI j))] [] := by
    intro k
    induction k with
    | zero =>
      intro j hj
      have hjN : j = n := by omega
      subst hjN
      refine j_iload_n C dX9_longs_2 rfl 3 rfl ?_
      refine j_aload_n C dX9_longs_3 rfl 4 rfl ?_
      refine j_alen C (by decide) hx dX9_longs_4 5 rfl ?_
      refine n_icmp_ge C 20 8 dX9_longs_5 (by decide) rfl (by omega) (by omega) (fun c_5 => ?_) (fun c_5 => ?_)
      · exact j_ret C hQ rfl (by omega) (by omega) dX9_longs_20
      · exact absurd c_5 (by omega)
    | succ k ih =>
      intro j hj
      refine j_iload_n C dX9_longs_2 rfl 3 rfl ?_
      refine j_aload_n C dX9_longs_3 rfl 4 rfl ?_
      refine j_alen C (by decide) hx dX9_longs_4 5 rfl ?_
      refine n_icmp_ge C 20 8 dX9_longs_5 (by decide) rfl (by omega) (by omega) (fun c_5 => ?_) (fun c_5 => ?_)
      · exact absurd c_5 (by omega)
      · refine j_aload_n C dX9_longs_8 rfl 9 rfl ?_
        refine j_iload_n C dX9_longs_9 rfl 10 rfl ?_
        refine j_aload_n C dX9_longs_10 rfl 11 rfl ?_
        refine j_iload_n C dX9_longs_11 rfl 12 rfl ?_
        refine j_lald C hx (by omega) hn dX9_longs_12 13 rfl ?_
        rw [gl_up_ne hxy]
        refine j_last C hy (by omega) hn dX9_longs_13 14 rfl ?_
        refine n_iinc C dX9_longs_14 rfl (by rw [hnL]; decide) rfl 17 rfl ?_
        refine j_goto (tgt := 2) C dX9_longs_17 (by decide) ?_
        rw [gl_u2_up, gl_cpyg]
        exact ih (j + 1) (by omega)
  refine j_iconst (v := nI 0) C dX9_longs_0 (by decide) 1 rfl ?_
  refine j_istore_n C dX9_longs_1 (Nat.le_of_ble_eq_true rfl) (by rw [hnL]; decide) rfl 2 rfl ?_
  have := loop n 0 (by omega)
  rw [gl_cpyg0, gl_up_self] at this
  exact this
set_option maxHeartbeats 4000000 in
set_option maxRecDepth 100000 in
theorem ct_X9_truths {l : Launch} {δ : gl_Del} {Λ : Nat × (Nat → Nat × Nat)} {R : Nat → Nat → Option Nat} {I : Nat → Nat → Int32} {L : Nat → Nat → Int64} {B : Nat → Nat → Bool} {x y n : Nat} (h : Nat) (hh : 1 ≤ h) (hx : Λ.2 x = (1, n)) (hy : Λ.2 y = (1, n)) (hn : n < 2 ^ 31) (hxy : x ≠ y) : gl_Ct l δ yX9_truths (ws_ yX9_truths cX9_truths 3 none) (gl_rm h 0 0) 0 0 [.ref x, .ref y] (Λ, I, L, B, R) (gl_Qv fun S => S = (Λ, I, L, va_up B y (va_cpy (B x) (B y) 0 0 n), R)) := by
  refine gl_of (by decide) (Nat.le_of_ble_eq_true rfl) rfl ?_
  intro κ C hQ hlκ hδκ hnL hini
  change gl_Cx κ RX9 _ _ _ at C
  have loop : ∀ k j : Nat, j + k = n → gl_J κ 0 0 (Λ, I, L, va_up B y (va_cpy (B x) (B y) 0 0 j), R) 2 [some (.ref x), some (.ref y), some (.int (nI j))] [] := by
    intro k
    induction k with
    | zero =>
      intro j hj
      have hjN : j = n := by omega
      subst hjN
      refine j_iload_n C dX9_truths_2 rfl 3 rfl ?_
      refine j_aload_n C dX9_truths_3 rfl 4 rfl ?_
      refine j_alen C (by decide) hx dX9_truths_4 5 rfl ?_
      refine n_icmp_ge C 20 8 dX9_truths_5 (by decide) rfl (by omega) (by omega) (fun c_5 => ?_) (fun c_5 => ?_)
      · exact j_ret C hQ rfl (by omega) (by omega) dX9_truths_20
      · exact absurd c_5 (by omega)
    | succ k ih =>
      intro j hj
      refine j_iload_n C dX9_truths_2 rfl 3 rfl ?_
      refine j_aload_n C dX9_truths_3 rfl 4 rfl ?_
      refine j_alen C (by decide) hx dX9_truths_4 5 rfl ?_
      refine n_icmp_ge C 20 8 dX9_truths_5 (by decide) rfl (by omega) (by omega) (fun c_5 => ?_) (fun c_5 => ?_)
      · exact absurd c_5 (by omega)
      · refine j_aload_n C dX9_truths_8 rfl 9 rfl ?_
        refine j_iload_n C dX9_truths_9 rfl 10 rfl ?_
        refine j_aload_n C dX9_truths_10 rfl 11 rfl ?_
        refine j_iload_n C dX9_truths_11 rfl 12 rfl ?_
        refine j_zald C hx (by omega) hn dX9_truths_12 13 rfl ?_
        rw [gl_up_ne hxy]
        refine j_zast C hy (by omega) hn dX9_truths_13 14 rfl ?_
        refine n_iinc C dX9_truths_14 rfl (by rw [hnL]; decide) rfl 17 rfl ?_
        refine j_goto (tgt := 2) C dX9_truths_17 (by decide) ?_
        rw [gl_u2_up, gl_cpyg]
        exact ih (j + 1) (by omega)
  refine j_iconst (v := nI 0) C dX9_truths_0 (by decide) 1 rfl ?_
  refine j_istore_n C dX9_truths_1 (Nat.le_of_ble_eq_true rfl) (by rw [hnL]; decide) rfl 2 rfl ?_
  have := loop n 0 (by omega)
  rw [gl_cpyg0, gl_up_self] at this
  exact this
