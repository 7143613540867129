/-! MODULE GlassLog, logs: begin, lie, lies, latest, hasGone, blocks (by gen65.py) -/
set_option maxRecDepth 100000
/-- the last place ahead of n of a key -/
def gl_lb (K : Nat → Int32) (ky : Int32) : Nat → Int32
  | 0 => -1
  | i + 1 => if K i = ky then nI i else gl_lb K ky i
/-- the latest of a key, as a log knows it -/
def gl_lat (K f : Nat → Int32) (sn : Nat → Nat) (lg : Nat → Bool) (wn n : Nat) (ky : Int32) : Int32 := if gl_ff f ky wn 0 < wn ∧ sn (gl_ff f ky wn 0) ≤ n then (if lg (gl_ff f ky wn 0) = true then gl_lb K ky (sn (gl_ff f ky wn 0)) else -1) else gl_lb K ky n
/-- one of c from a on -/
def gl_hg (g : Nat → Bool) (a : Nat) : Nat → Bool
  | 0 => false
  | j + 1 => gl_hg g a j || g (a + j)
/-- a log's sums of whole blocks -/
def gl_sm (I : Nat → Nat → Int32) (l : Nat) (K : Nat → Int32) (V : Nat → Int64) (n : Nat) : Prop := ∀ r b, (b + 1) * 2 ^ r ≤ n → ∀ t, t < 8 → I (l + 9 + r) (b * 8 + t) = gl_bs K V r (b * 2 ^ r) t
set_option maxHeartbeats 4000000 in
set_option maxRecDepth 100000 in
theorem ct_X2_begin {l : Launch} {δ : gl_Del} {Λ : gl_Lay} {I : Nat → Nat → Int32} {L : Nat → Nat → Int64} {B : Nat → Nat → Bool} {R : Nat → Nat → Option Nat} {lo : Nat} {x : Int32} (h : Nat) (hh : 1 ≤ h) (hL : gl_LL Λ R lo) : gl_Ct l δ yX2_begin (ws_ yX2_begin cX2_begin 2 none) (gl_rm h 0 0) 0 0 [.ref lo, .int x] (Λ, I, L, B, R) (gl_Qv fun S => S = (Λ, gl_u2 (gl_u2 (gl_u2 I lo 8 x) lo 9 (nI 0)) lo 10 (nI 0), L, B, R)) := by
  refine gl_of (by decide) (Nat.le_of_ble_eq_true rfl) rfl ?_
  intro κ C hQ hlκ hδκ hnL hini
  change gl_Cx κ RX2 _ _ _ at C
  refine j_aload_n C dX2_begin_0 rfl 1 rfl ?_
  refine j_iload_n C dX2_begin_1 rfl 2 rfl ?_
  refine pf_X2_40 C hL.o dX2_begin_2 5 rfl ?_
  refine j_aload_n C dX2_begin_5 rfl 6 rfl ?_
  refine j_iconst (v := nI 0) C dX2_begin_6 (by decide) 7 rfl ?_
  refine pf_X2_44 C hL.o dX2_begin_7 10 rfl ?_
  refine j_aload_n C dX2_begin_10 rfl 11 rfl ?_
  refine j_iconst (v := nI 0) C dX2_begin_11 (by decide) 12 rfl ?_
  refine pf_X2_47 C hL.o dX2_begin_12 15 rfl ?_
  exact j_ret C hQ rfl (by omega) (by omega) dX2_begin_15
set_option maxHeartbeats 4000000 in
set_option maxRecDepth 100000 in
theorem ct_X2_lie {l : Launch} {δ : gl_Del} {Λ : gl_Lay} {I : Nat → Nat → Int32} {L : Nat → Nat → Int64} {B : Nat → Nat → Bool} {R : Nat → Nat → Option Nat} {lo : Nat} {n : Nat} {ky : Int32} (h : Nat) (hh : 1 ≤ h) (hL : gl_LL Λ R lo) (hn : I lo 10 = nI n) (hb : n ≤ 100) : gl_Ct l δ yX2_lie (ws_ yX2_lie cX2_lie 3 ((some FieldType.int))) (gl_rm h 0 0) 0 0 [.ref lo, .int ky] (Λ, I, L, B, R) (gl_Qi fun r S => r = gl_fd (I (lo + 2)) ky n ∧ S = (Λ, I, L, B, R)) := by
  refine gl_of (by decide) (Nat.le_of_ble_eq_true rfl) rfl ?_
  intro κ C hQ hlκ hδκ hnL hini
  change gl_Cx κ RX2 _ _ _ at C
  have loop : ∀ k j : Nat, j + k = n → gl_ff (I (lo + 2)) ky k j = gl_ff (I (lo + 2)) ky n 0 → gl_J κ 0 0 (Λ, I, L, B, R) 2 [some (.ref lo), some (.int ky), some (.int (nI j))] [] := by
    intro k
    induction k with
    | zero =>
      intro j hj hres
      have hjN : j = n := by omega
      subst hjN
      refine j_iload_n C dX2_lie_2 rfl 3 rfl ?_
      refine j_aload_n C dX2_lie_3 rfl 4 rfl ?_
      refine gf_X2_47 C hL.o dX2_lie_4 7 rfl ?_
      rw [hn]
      refine n_icmp_ge C 28 10 dX2_lie_7 (by decide) rfl (by omega) (by omega) (fun c_7 => ?_) (fun c_7 => ?_)
      · refine j_iconst (v := -1) C dX2_lie_28 (by decide) 29 rfl ?_
        exact j_iret C hQ ⟨by rw [gl_fd, if_neg (by rw [← hres]; exact Nat.lt_irrefl _)], rfl⟩ (by omega) (by omega) dX2_lie_29
      · exact absurd c_7 (by omega)
    | succ k ih =>
      intro j hj hres
      refine j_iload_n C dX2_lie_2 rfl 3 rfl ?_
      refine j_aload_n C dX2_lie_3 rfl 4 rfl ?_
      refine gf_X2_47 C hL.o dX2_lie_4 7 rfl ?_
      rw [hn]
      refine n_icmp_ge C 28 10 dX2_lie_7 (by decide) rfl (by omega) (by omega) (fun c_7 => ?_) (fun c_7 => ?_)
      · exact absurd c_7 (by omega)
      · refine j_aload_n C dX2_lie_10 rfl 11 rfl ?_
        refine gf_X2_15 C hL.o hL.r1 dX2_lie_11 14 rfl ?_
        refine j_iload_n C dX2_lie_14 rfl 15 rfl ?_
        refine j_iald C hL.k2 (by omega) (by decide) dX2_lie_15 16 rfl ?_
        refine j_iload_n C dX2_lie_16 rfl 17 rfl ?_
        refine j_icmp_ne C 22 20 dX2_lie_17 (by decide) rfl (fun c_17 => ?_) (fun c_17 => ?_)
        · refine n_iinc C dX2_lie_22 rfl (by rw [hnL]; decide) rfl 25 rfl ?_
          refine j_goto (tgt := 2) C dX2_lie_25 (by decide) ?_
          refine ih (j + 1) (by omega) ?_
          rw [← hres, gl_ff, if_neg c_17]
        · refine j_iload_n C dX2_lie_20 rfl 21 rfl ?_
          exact j_iret C hQ ⟨by rw [gl_fd, ← hres, gl_ff, if_pos c_17, if_pos (by omega)], rfl⟩ (by omega) (by omega) dX2_lie_21
  refine j_iconst (v := nI 0) C dX2_lie_0 (by decide) 1 rfl ?_
  refine j_istore_n C dX2_lie_1 (Nat.le_of_ble_eq_true rfl) (by rw [hnL]; decide) rfl 2 rfl ?_
  exact loop n 0 (by omega) rfl
set_option maxHeartbeats 4000000 in
set_option maxRecDepth 100000 in
theorem ct_X2_lies {l : Launch} {δ : gl_Del} {Λ : gl_Lay} {I : Nat → Nat → Int32} {L : Nat → Nat → Int64} {B : Nat → Nat → Bool} {R : Nat → Nat → Option Nat} {lo : Nat} {wn n : Nat} {ky : Int32} {b : Bool} (h : Nat) (hh : 2 ≤ h) (hL : gl_LL Λ R lo) (hn : I lo 10 = nI wn) (hb : wn ≤ 100) (hm : I lo 9 = nI n) : gl_Ct l δ yX2_lies (ws_ yX2_lies cX2_lies 3 ((some FieldType.boolean))) (gl_rm h 0 0) 0 0 [.ref lo, .int ky, .int (b2i b)] (Λ, I, L, B, R) (gl_Qi fun r S => r = b2i (decide (gl_ff (I (lo + 2)) ky wn 0 = wn ∧ wn ≠ 100)) ∧ S = if (gl_ff (I (lo + 2)) ky wn 0 = wn ∧ wn ≠ 100) then (Λ, gl_u2 (gl_u2 (gl_u2 I (lo + 2) wn ky) (lo + 3) wn (nI n)) lo 10 (nI (wn + 1)), L, gl_u2 B (lo + 7) wn b, R) else (Λ, I, L, B, R)) := by
  refine gl_of (by decide) (Nat.le_of_ble_eq_true rfl) rfl ?_
  intro κ C hQ hlκ hδκ hnL hini
  change gl_Cx κ RX2 _ _ _ at C
  have hle : gl_ff (I (lo + 2)) ky wn 0 ≤ wn := by have := gl_ff_le (f := I (lo + 2)) (key := ky) wn 0; omega
  refine j_aload_n C dX2_lies_0 rfl 1 rfl ?_
  refine j_iload_n C dX2_lies_1 rfl 2 rfl ?_
  refine j_ci C (cs_X2_76 C (ct_X2_lie (n := wn) (h - 1) (by omega) hL hn hb) hL.o rfl (by omega) (by omega) (by omega) rfl (Nat.le_of_ble_eq_true rfl) dX2_lies_2) 5 rfl ?_
  rintro _ _ ⟨rfl, rfl⟩
  refine j_if_ge C 17 8 dX2_lies_5 (by decide) rfl (fun c_5 => ?_) (fun c_5 => ?_)
  · have hlt : gl_ff (I (lo + 2)) ky wn 0 < wn := by
      rcases Nat.lt_or_ge (gl_ff (I (lo + 2)) ky wn 0) wn with q | q
      · exact q
      · rw [gl_fd, if_neg (by omega)] at c_5; exact absurd c_5 (by decide)
    refine j_iconst (v := b2i false) C dX2_lies_17 (by decide) 18 rfl ?_
    exact j_zret C hQ ⟨by rw [decide_eq_false (fun q => by omega)], by rw [if_neg (fun q => by omega)]⟩ (by omega) (by omega) dX2_lies_18
  · have hge : gl_ff (I (lo + 2)) ky wn 0 = wn := by
      rcases Nat.lt_or_ge (gl_ff (I (lo + 2)) ky wn 0) wn with q | q
      · rw [gl_fd, if_pos q] at c_5; exact absurd (nI_pos' (by omega)) c_5
      · omega
    refine j_aload_n C dX2_lies_8 rfl 9 rfl ?_
    refine gf_X2_47 C hL.o dX2_lies_9 12 rfl ?_
    rw [hn]
    refine j_bipush (v := nI 100) C dX2_lies_12 (by decide) 14 rfl ?_
    refine n_icmp_ne C 19 17 dX2_lies_14 (by decide) rfl (by omega) (by omega) (fun c_14 => ?_) (fun c_14 => ?_)
    · refine j_aload_n C dX2_lies_19 rfl 20 rfl ?_
      refine gf_X2_15 C hL.o hL.r1 dX2_lies_20 23 rfl ?_
      refine j_aload_n C dX2_lies_23 rfl 24 rfl ?_
      refine gf_X2_47 C hL.o dX2_lies_24 27 rfl ?_
      rw [hn]
      refine j_iload_n C dX2_lies_27 rfl 28 rfl ?_
      refine j_iast C hL.k2 (by omega) (by decide) dX2_lies_28 29 rfl ?_
      refine j_aload_n C dX2_lies_29 rfl 30 rfl ?_
      refine gf_X2_18 C hL.o hL.r2 dX2_lies_30 33 rfl ?_
      refine j_aload_n C dX2_lies_33 rfl 34 rfl ?_
      refine gf_X2_47 C hL.o dX2_lies_34 37 rfl ?_
      rw [gl_u2_ne (by omega), hn]
      refine j_aload_n C dX2_lies_37 rfl 38 rfl ?_
      refine gf_X2_44 C hL.o dX2_lies_38 41 rfl ?_
      rw [gl_u2_ne (by omega), hm]
      refine j_iast C hL.k3 (by omega) (by decide) dX2_lies_41 42 rfl ?_
      refine j_aload_n C dX2_lies_42 rfl 43 rfl ?_
      refine gf_X2_32 C hL.o hL.r6 dX2_lies_43 46 rfl ?_
      refine j_aload_n C dX2_lies_46 rfl 47 rfl ?_
      refine gf_X2_47 C hL.o dX2_lies_47 50 rfl ?_
      rw [gl_u2_ne (by omega), gl_u2_ne (by omega), hn]
      refine j_iload_n C dX2_lies_50 rfl 51 rfl ?_
      refine j_zast C hL.k7 (by omega) (by decide) dX2_lies_51 52 rfl ?_
      refine j_aload_n C dX2_lies_52 rfl 53 rfl ?_
      refine j_dup C dX2_lies_53 rfl 54 rfl ?_
      refine gf_X2_47 C hL.o dX2_lies_54 57 rfl ?_
      rw [gl_u2_ne (by omega), gl_u2_ne (by omega), hn]
      refine j_iconst (v := nI 1) C dX2_lies_57 (by decide) 58 rfl ?_
      refine n_iadd C dX2_lies_58 59 rfl ?_
      refine pf_X2_47 C hL.o dX2_lies_59 62 rfl ?_
      refine j_iconst (v := b2i true) C dX2_lies_62 (by decide) 63 rfl ?_
      exact j_zret C hQ ⟨by rw [decide_eq_true ⟨hge, c_14⟩], by rw [if_pos ⟨hge, c_14⟩]⟩ (by omega) (by omega) dX2_lies_63
    · refine j_iconst (v := b2i false) C dX2_lies_17 (by decide) 18 rfl ?_
      exact j_zret C hQ ⟨by rw [decide_eq_false (fun q => by omega)], by rw [if_neg (fun q => by omega)]⟩ (by omega) (by omega) dX2_lies_18
set_option maxHeartbeats 4000000 in
set_option maxRecDepth 100000 in
theorem ct_X2_latest {l : Launch} {δ : gl_Del} {Λ : gl_Lay} {I : Nat → Nat → Int32} {L : Nat → Nat → Int64} {B : Nat → Nat → Bool} {R : Nat → Nat → Option Nat} {lo : Nat} {wn n : Nat} {sn : Nat → Nat} {ky : Int32} (h : Nat) (hh : 2 ≤ h) (hL : gl_LL Λ R lo) (hn : I lo 10 = nI wn) (hb : wn ≤ 100) (hs : ∀ w, w < wn → I (lo + 3) w = nI (sn w)) (hsb : ∀ w, w < wn → sn w ≤ 400) (hnb : n ≤ 400) : gl_Ct l δ yX2_latest (ws_ yX2_latest cX2_latest 6 ((some FieldType.int))) (gl_rm h 0 0) 0 0 [.ref lo, .int (nI n), .int ky] (Λ, I, L, B, R) (gl_Qi fun r S => r = gl_lat (I (lo + 1)) (I (lo + 2)) sn (B (lo + 7)) wn n ky ∧ S = (Λ, I, L, B, R)) := by
  refine gl_of (by decide) (Nat.le_of_ble_eq_true rfl) rfl ?_
  intro κ C hQ hlκ hδκ hnL hini
  change gl_Cx κ RX2 _ _ _ at C
  have loop : ∀ (i : Nat) (x3 : Int32) (to : Nat), i ≤ 400 → gl_lb (I (lo + 1)) ky i = gl_lat (I (lo + 1)) (I (lo + 2)) sn (B (lo + 7)) wn n ky → gl_J κ 0 0 (Λ, I, L, B, R) 48 [some (.ref lo), some (.int (nI n)), some (.int ky), some (.int x3), some (.int (nI to)), some (.int (nI i + (-1)))] [] := by
    intro i x3
    induction i with
    | zero =>
      intro to hi hres
      refine j_iload C dX2_latest_48 rfl 50 rfl ?_
      refine j_if_lt C 73 53 dX2_latest_50 (by decide) rfl (fun c_50 => ?_) (fun c_50 => ?_)
      · refine j_iconst (v := -1) C dX2_latest_73 (by decide) 74 rfl ?_
        exact j_iret C hQ ⟨hres, rfl⟩ (by omega) (by omega) dX2_latest_74
      · exact absurd (by decide) c_50
    | succ i ih =>
      intro to hi hres
      rw [pk_m1]
      refine j_iload C dX2_latest_48 rfl 50 rfl ?_
      refine j_if_lt C 73 53 dX2_latest_50 (by decide) rfl (fun c_50 => ?_) (fun c_50 => ?_)
      · exact absurd c_50 (nI_pos (by omega))
      · refine j_aload_n C dX2_latest_53 rfl 54 rfl ?_
        refine gf_X2_9 C hL.o hL.r0 dX2_latest_54 57 rfl ?_
        refine j_iload C dX2_latest_57 rfl 59 rfl ?_
        refine j_iald C hL.k1 (by omega) (by decide) dX2_latest_59 60 rfl ?_
        refine j_iload_n C dX2_latest_60 rfl 61 rfl ?_
        refine j_icmp_ne C 67 64 dX2_latest_61 (by decide) rfl (fun c_61 => ?_) (fun c_61 => ?_)
        · refine j_iinc C dX2_latest_67 rfl rfl (by rw [hnL]; decide) rfl 70 rfl ?_
          refine j_goto (tgt := 48) C dX2_latest_70 (by decide) ?_
          exact ih _ (by omega) (by rw [← hres, gl_lb, if_neg c_61])
        · refine j_iload C dX2_latest_64 rfl 66 rfl ?_
          exact j_iret C hQ ⟨by rw [← hres, gl_lb, if_pos c_61], rfl⟩ (by omega) (by omega) dX2_latest_66
  have fin : ∀ (x3 : Int32) (to : Nat), to ≤ 400 → gl_lb (I (lo + 1)) ky to = gl_lat (I (lo + 1)) (I (lo + 2)) sn (B (lo + 7)) wn n ky → gl_J κ 0 0 (Λ, I, L, B, R) 42 [some (.ref lo), some (.int (nI n)), some (.int ky), some (.int x3), some (.int (nI to)), none] [] := by
    intro x3 to hto hres
    refine j_iload C dX2_latest_42 rfl 44 rfl ?_
    refine j_iconst (v := nI 1) C dX2_latest_44 (by decide) 45 rfl ?_
    refine j_isub C dX2_latest_45 46 rfl ?_
    rw [show nI to - nI 1 = nI to + (-1) by rw [Int32.sub_eq_add_neg]; rfl]
    refine j_istore C dX2_latest_46 (Nat.le_of_ble_eq_true rfl) (by rw [hnL]; decide) rfl 48 rfl ?_
    exact loop to x3 to hto hres
  refine j_aload_n C dX2_latest_0 rfl 1 rfl ?_
  refine j_iload_n C dX2_latest_1 rfl 2 rfl ?_
  refine j_ci C (cs_X2_76 C (ct_X2_lie (n := wn) (h - 1) (by omega) hL hn hb) hL.o rfl (by omega) (by omega) (by omega) rfl (Nat.le_of_ble_eq_true rfl) dX2_latest_2) 5 rfl ?_
  rintro _ _ ⟨rfl, rfl⟩
  rw [gl_fd]
  obtain ⟨w, hw⟩ : ∃ w, w = gl_ff (I (lo + 2)) ky wn 0 := ⟨_, rfl⟩
  rw [← hw]
  by_cases hlt : w < wn
  · rw [if_pos hlt]
    have hsw := hsb w hlt
    refine j_istore_n C dX2_latest_5 (Nat.le_of_ble_eq_true rfl) (by rw [hnL]; decide) rfl 6 rfl ?_
    refine j_iload_n C dX2_latest_6 rfl 7 rfl ?_
    refine j_istore C dX2_latest_7 (Nat.le_of_ble_eq_true rfl) (by rw [hnL]; decide) rfl 9 rfl ?_
    refine j_iload_n C dX2_latest_9 rfl 10 rfl ?_
    refine n_if_lt C 13 dX2_latest_10 (tgt := 42) (by decide) rfl (by omega) ?_
    refine j_iload_n C dX2_latest_13 rfl 14 rfl ?_
    refine j_aload_n C dX2_latest_14 rfl 15 rfl ?_
    refine gf_X2_18 C hL.o hL.r2 dX2_latest_15 18 rfl ?_
    refine j_iload_n C dX2_latest_18 rfl 19 rfl ?_
    refine j_iald C hL.k3 (by omega) (by decide) dX2_latest_19 20 rfl ?_
    rw [hs w hlt]
    refine n_icmp_lt C 42 23 dX2_latest_20 (by decide) rfl (by omega) (by omega) (fun c_20 => ?_) (fun c_20 => ?_)
    · exact fin _ n hnb (by rw [gl_lat, ← hw, if_neg (fun q => by omega)])
    · refine j_aload_n C dX2_latest_23 rfl 24 rfl ?_
      refine gf_X2_32 C hL.o hL.r6 dX2_latest_24 27 rfl ?_
      refine j_iload_n C dX2_latest_27 rfl 28 rfl ?_
      refine j_zald C hL.k7 (by omega) (by decide) dX2_latest_28 29 rfl ?_
      refine b_if_ne C 34 32 dX2_latest_29 (by decide) rfl (fun c_29 => ?_) (fun c_29 => ?_)
      · refine j_aload_n C dX2_latest_34 rfl 35 rfl ?_
        refine gf_X2_18 C hL.o hL.r2 dX2_latest_35 38 rfl ?_
        refine j_iload_n C dX2_latest_38 rfl 39 rfl ?_
        refine j_iald C hL.k3 (by omega) (by decide) dX2_latest_39 40 rfl ?_
        rw [hs w hlt]
        refine j_istore C dX2_latest_40 (Nat.le_of_ble_eq_true rfl) (by rw [hnL]; decide) rfl 42 rfl ?_
        exact fin _ _ (hsb w hlt) (by rw [gl_lat, ← hw, if_pos ⟨hlt, by omega⟩, if_pos c_29])
      · refine j_iconst (v := -1) C dX2_latest_32 (by decide) 33 rfl ?_
        exact j_iret C hQ ⟨by rw [gl_lat, ← hw, if_pos ⟨hlt, by omega⟩, if_neg (by rw [c_29]; decide)], rfl⟩ (by omega) (by omega) dX2_latest_33
  · rw [if_neg hlt]
    refine j_istore_n C dX2_latest_5 (Nat.le_of_ble_eq_true rfl) (by rw [hnL]; decide) rfl 6 rfl ?_
    refine j_iload_n C dX2_latest_6 rfl 7 rfl ?_
    refine j_istore C dX2_latest_7 (Nat.le_of_ble_eq_true rfl) (by rw [hnL]; decide) rfl 9 rfl ?_
    refine j_iload_n C dX2_latest_9 rfl 10 rfl ?_
    refine j_if_lt C 42 13 dX2_latest_10 (by decide) rfl (fun c_10 => ?_) (fun c_10 => ?_)
    · exact fin _ n hnb (by rw [gl_lat, ← hw, if_neg (fun q => hlt q.1)])
    · exact absurd (by decide) c_10
set_option maxHeartbeats 4000000 in
set_option maxRecDepth 100000 in
theorem ct_X2_hasGone {l : Launch} {δ : gl_Del} {Λ : gl_Lay} {I : Nat → Nat → Int32} {L : Nat → Nat → Int64} {B : Nat → Nat → Bool} {R : Nat → Nat → Option Nat} {lo : Nat} {a c : Nat} (h : Nat) (hh : 1 ≤ h) (hL : gl_LL Λ R lo) (hb : a + c ≤ 400) : gl_Ct l δ yX2_hasGone (ws_ yX2_hasGone cX2_hasGone 5 ((some FieldType.boolean))) (gl_rm h 0 0) 0 0 [.ref lo, .int (nI a), .int (nI (a + c))] (Λ, I, L, B, R) (gl_Qi fun r S => r = b2i (gl_hg (B (lo + 5)) a c) ∧ S = (Λ, I, L, B, R)) := by
  refine gl_of (by decide) (Nat.le_of_ble_eq_true rfl) rfl ?_
  intro κ C hQ hlκ hδκ hnL hini
  change gl_Cx κ RX2 _ _ _ at C
  have loop : ∀ k j : Nat, j + k = c → gl_J κ 0 0 (Λ, I, L, B, R) 5 [some (.ref lo), some (.int (nI a)), some (.int (nI (a + c))), some (.int (b2i (gl_hg (B (lo + 5)) a j))), some (.int (nI (a + j)))] [] := by
    intro k
    induction k with
    | zero =>
      intro j hj
      have hjN : j = c := by omega
      subst hjN
      refine j_iload C dX2_hasGone_5 rfl 7 rfl ?_
      refine j_iload_n C dX2_hasGone_7 rfl 8 rfl ?_
      refine n_icmp_ge C 37 11 dX2_hasGone_8 (by decide) rfl (by omega) (by omega) (fun c_8 => ?_) (fun c_8 => ?_)
      · refine j_iload_n C dX2_hasGone_37 rfl 38 rfl ?_
        exact j_zret C hQ ⟨rfl, rfl⟩ (by omega) (by omega) dX2_hasGone_38
      · exact absurd c_8 (by omega)
    | succ k ih =>
      intro j hj
      refine j_iload C dX2_hasGone_5 rfl 7 rfl ?_
      refine j_iload_n C dX2_hasGone_7 rfl 8 rfl ?_
      refine n_icmp_ge C 37 11 dX2_hasGone_8 (by decide) rfl (by omega) (by omega) (fun c_8 => ?_) (fun c_8 => ?_)
      · exact absurd c_8 (by omega)
      · refine j_iload_n C dX2_hasGone_11 rfl 12 rfl ?_
        refine b_if_ne C 25 15 dX2_hasGone_12 (by decide) rfl (fun c_12 => ?_) (fun c_12 => ?_)
        · refine j_iconst (v := b2i true) C dX2_hasGone_25 (by decide) 26 rfl ?_
          refine j_goto (tgt := 30) C dX2_hasGone_26 (by decide) ?_
          refine j_istore_n C dX2_hasGone_30 (Nat.le_of_ble_eq_true rfl) (by rw [hnL]; decide) rfl 31 rfl ?_
          refine n_iinc C dX2_hasGone_31 rfl (by rw [hnL]; decide) rfl 34 rfl ?_
          refine j_goto (tgt := 5) C dX2_hasGone_34 (by decide) ?_
          have e : gl_hg (B (lo + 5)) a (j + 1) = true := by rw [gl_hg, c_12]; rfl
          have := ih (j + 1) (by omega)
          rw [e] at this
          exact this
        · refine j_aload_n C dX2_hasGone_15 rfl 16 rfl ?_
          refine gf_X2_25 C hL.o hL.r4 dX2_hasGone_16 19 rfl ?_
          refine j_iload C dX2_hasGone_19 rfl 21 rfl ?_
          refine j_zald C hL.k5 (by omega) (by decide) dX2_hasGone_21 22 rfl ?_
          refine b_if_eq C 29 25 dX2_hasGone_22 (by decide) rfl (fun c_22 => ?_) (fun c_22 => ?_)
          · refine j_iconst (v := b2i false) C dX2_hasGone_29 (by decide) 30 rfl ?_
            refine j_istore_n C dX2_hasGone_30 (Nat.le_of_ble_eq_true rfl) (by rw [hnL]; decide) rfl 31 rfl ?_
            refine n_iinc C dX2_hasGone_31 rfl (by rw [hnL]; decide) rfl 34 rfl ?_
            refine j_goto (tgt := 5) C dX2_hasGone_34 (by decide) ?_
            have e : gl_hg (B (lo + 5)) a (j + 1) = false := by rw [gl_hg, c_12, c_22]; rfl
            have := ih (j + 1) (by omega)
            rw [e] at this
            exact this
          · refine j_iconst (v := b2i true) C dX2_hasGone_25 (by decide) 26 rfl ?_
            refine j_goto (tgt := 30) C dX2_hasGone_26 (by decide) ?_
            refine j_istore_n C dX2_hasGone_30 (Nat.le_of_ble_eq_true rfl) (by rw [hnL]; decide) rfl 31 rfl ?_
            refine n_iinc C dX2_hasGone_31 rfl (by rw [hnL]; decide) rfl 34 rfl ?_
            refine j_goto (tgt := 5) C dX2_hasGone_34 (by decide) ?_
            have e : gl_hg (B (lo + 5)) a (j + 1) = true := by rw [gl_hg, c_22, Bool.or_true]
            have := ih (j + 1) (by omega)
            rw [e] at this
            exact this
  refine j_iconst (v := b2i false) C dX2_hasGone_0 (by decide) 1 rfl ?_
  refine j_istore_n C dX2_hasGone_1 (Nat.le_of_ble_eq_true rfl) (by rw [hnL]; decide) rfl 2 rfl ?_
  refine j_iload_n C dX2_hasGone_2 rfl 3 rfl ?_
  refine j_istore C dX2_hasGone_3 (Nat.le_of_ble_eq_true rfl) (by rw [hnL]; decide) rfl 5 rfl ?_
  exact loop c 0 (by omega)
set_option maxHeartbeats 4000000 in
set_option maxRecDepth 100000 in
theorem ct_X2_blocks {l : Launch} {δ : gl_Del} {Λ : gl_Lay} {I : Nat → Nat → Int32} {L : Nat → Nat → Int64} {B : Nat → Nat → Bool} {R : Nat → Nat → Option Nat} {lo : Nat} {K : Nat → Int32} {V : Nat → Int64} {n a b : Nat} {p : gl_Pl} (h : Nat) (hh : 6 ≤ h) (hL : gl_LL Λ R lo) (hG : gl_GL Λ R) (hl : lo + 19 ≤ 690 ∨ 695 ≤ lo) (hsm : gl_sm I lo K V n) (hbn : b ≤ n) (hn4 : n ≤ 400) (hab : a ≤ b) (hp : gl_gp I p) (hsz : gl_sz p = a) (hin : gl_inc 0 p) : gl_Ct l δ yX2_blocks (ws_ yX2_blocks cX2_blocks 6 none) (gl_rm h 0 0) 0 0 [.ref lo, .ref 692, .int (nI a), .int (nI b)] (Λ, I, L, B, R) (gl_Qv fun S => ∃ I', S = (Λ, I', L, B, R) ∧ gl_fr 690 695 I I' ∧ gl_gp I' (gl_ll (fun a e => gl_bs K V e a) b (b - a) a p)) := by
  refine gl_of (by decide) (Nat.le_of_ble_eq_true rfl) rfl ?_
  intro κ C hQ hlκ hδκ hnL hini
  change gl_Cx κ RX2 _ _ _ at C
  have loop : ∀ (m at_ : Nat) (p1 : gl_Pl) (I1 : Nat → Nat → Int32) (x5 : Option Value), at_ ≤ b → b - at_ ≤ m → gl_gp I1 p1 → gl_sz p1 = at_ → gl_inc 0 p1 → gl_fr 690 695 I I1 → gl_ll (fun a e => gl_bs K V e a) b m at_ p1 = gl_ll (fun a e => gl_bs K V e a) b (b - a) a p → gl_J κ 0 0 (Λ, I1, L, B, R) 3 [some (.ref lo), some (.ref 692), some (.int (nI a)), some (.int (nI b)), some (.int (nI at_)), x5] [] := by
    intro m
    induction m with
    | zero =>
      intro at_ p1 I1 x5 hat hm hg1 hs1 hi1 hf1 htg
      have e0 : at_ = b := by omega
      subst e0
      refine j_iload C dX2_blocks_3 rfl 5 rfl ?_
      refine j_iload_n C dX2_blocks_5 rfl 6 rfl ?_
      refine n_icmp_ge C 50 9 dX2_blocks_6 (by decide) rfl (by omega) (by omega) (fun c_6 => ?_) (fun c_6 => ?_)
      · exact j_ret C hQ ⟨_, rfl, hf1, by rw [← htg]; exact hg1⟩ (by omega) (by omega) dX2_blocks_50
      · exact absurd c_6 (by omega)
    | succ m ih =>
      intro at_ p1 I1 x5 hat hm hg1 hs1 hi1 hf1 htg
      rcases Nat.lt_or_ge at_ b with hlt | hge
      · obtain ⟨e, he⟩ : ∃ e, e = gl_lv at_ b := ⟨_, rfl⟩
        have hv : at_ % 2 ^ e = 0 ∧ at_ + 2 ^ e ≤ b := by rw [he]; exact gl_lv_ok hlt
        have he9 : e ≤ 9 := by rw [he]; exact gl_lv_le
        have hlen := gl_inc_len hi1 (by decide) (by omega)
        have h0e : 0 < 2 ^ e := Nat.two_pow_pos e
        have hd1 : at_ / 2 ^ e * 2 ^ e = at_ := gl_dm.mpr hv.1
        have hd2 : at_ / 2 ^ e + 1 ≤ 400 / 2 ^ e := (Nat.le_div_iff_mul_le h0e).mpr (by rw [Nat.add_mul, hd1, Nat.one_mul]; omega)
        have hd3 : 400 / 2 ^ e ≤ 400 := Nat.div_le_self _ _
        have hrow : ∀ t, t < 8 → I1 (lo + 9 + e) (at_ / 2 ^ e * 8 + t) = gl_bs K V e at_ t := by
          intro t ht
          rw [hf1 _ (by omega), hsm e (at_ / 2 ^ e) (by rw [Nat.add_mul, hd1, Nat.one_mul]; omega) t ht, hd1]
        refine j_iload C dX2_blocks_3 rfl 5 rfl ?_
        refine j_iload_n C dX2_blocks_5 rfl 6 rfl ?_
        refine n_icmp_ge C 50 9 dX2_blocks_6 (by decide) rfl (by omega) (by omega) (fun c_6 => ?_) (fun c_6 => ?_)
        · exact absurd c_6 (by omega)
        · refine j_iload C dX2_blocks_9 rfl 11 rfl ?_
          refine j_iload_n C dX2_blocks_11 rfl 12 rfl ?_
          refine j_ci C (cs_X2_66 C (ct_X0_level (h - 1) (by omega) (by omega) (by omega)) rfl (by omega) (by omega) (by omega) rfl (Nat.le_of_ble_eq_true rfl) dX2_blocks_12) 15 rfl ?_
          rintro _ _ ⟨rfl, rfl⟩
          rw [← he]
          refine j_istore C dX2_blocks_15 (Nat.le_of_ble_eq_true rfl) (by rw [hnL]; decide) rfl 17 rfl ?_
          refine j_aload_n C dX2_blocks_17 rfl 18 rfl ?_
          refine j_iload C dX2_blocks_18 rfl 20 rfl ?_
          refine j_aload_n C dX2_blocks_20 rfl 21 rfl ?_
          refine gf_X2_36 C hL.o hL.r7 dX2_blocks_21 24 rfl ?_
          refine j_iload C dX2_blocks_24 rfl 26 rfl ?_
          refine j_aald C (by decide) hL.k8 (by omega) (by decide) dX2_blocks_26 27 rfl ?_
          rw [hL.rs e (by omega)]
          change gl_J _ _ _ _ _ _ (Value.ref _ :: _)
          refine j_iload C dX2_blocks_27 rfl 29 rfl ?_
          refine j_iload C dX2_blocks_29 rfl 31 rfl ?_
          refine n_ishr C dX2_blocks_31 (by omega) (by omega) 32 rfl ?_
          refine j_bipush (v := nI 8) C dX2_blocks_32 (by decide) 34 rfl ?_
          refine n_imul C dX2_blocks_34 35 rfl ?_
          refine j_cv C (cs_X2_70 C (ct_X7_add (I := I1) (p := p1) (e := e) (x := lo + 9 + e) (at_ := at_ / 2 ^ e * 8) (h - 1) (by omega) hG hg1 (by omega) (by omega) (hL.ks e (by omega)) (by omega) (by omega)) hG.p0 rfl (by omega) (by omega) (by omega) rfl (Nat.le_of_ble_eq_true rfl) dX2_blocks_35) 38 rfl ?_
          rintro _ ⟨I2, rfl, hf2, hg2⟩
          refine j_iload C dX2_blocks_38 rfl 40 rfl ?_
          refine j_iconst (v := nI 1) C dX2_blocks_40 (by decide) 41 rfl ?_
          refine j_iload C dX2_blocks_41 rfl 43 rfl ?_
          refine n_ishl C dX2_blocks_43 (by omega) (by omega) 44 rfl ?_
          refine n_iadd C dX2_blocks_44 45 rfl ?_
          rw [Nat.one_mul]
          refine j_istore C dX2_blocks_45 (Nat.le_of_ble_eq_true rfl) (by rw [hnL]; decide) rfl 47 rfl ?_
          refine j_goto (tgt := 3) C dX2_blocks_47 (by decide) ?_
          rw [hs1, gl_lay_congr hrow] at hg2
          refine ih (at_ + 2 ^ e) (gl_lay at_ e (gl_bs K V e at_) p1) I2 _ (by omega) (by omega) hg2 (by rw [gl_sz_lay, hs1, Nat.add_comm]) ?_ (hf1.tr hf2) ?_
          · rw [← hs1]
            exact gl_inc_lay hi1 (by rw [hs1]; exact hv.1)
          · rw [← htg, gl_ll_s hlt, ← he]
      · have e0 : at_ = b := by omega
        subst e0
        refine j_iload C dX2_blocks_3 rfl 5 rfl ?_
        refine j_iload_n C dX2_blocks_5 rfl 6 rfl ?_
        refine n_icmp_ge C 50 9 dX2_blocks_6 (by decide) rfl (by omega) (by omega) (fun c_6 => ?_) (fun c_6 => ?_)
        · exact j_ret C hQ ⟨_, rfl, hf1, by rw [← htg, gl_ll_end]; exact hg1⟩ (by omega) (by omega) dX2_blocks_50
        · exact absurd c_6 (by omega)
  refine j_iload_n C dX2_blocks_0 rfl 1 rfl ?_
  refine j_istore C dX2_blocks_1 (Nat.le_of_ble_eq_true rfl) (by rw [hnL]; decide) rfl 3 rfl ?_
  exact loop (b - a) a p I none hab (Nat.le_refl _) hp hsz hin gl_fr.rf rfl
