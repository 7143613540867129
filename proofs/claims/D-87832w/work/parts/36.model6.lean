/-! MODULE Model, tests and searches: isLog, many, isCount, isSlot, isReader, isWatcher, word, counts, find, isOne, part (by gen36.py) -/
set_option maxRecDepth 100000
/-- an int is one of the first n -/
def gl_in (x : Int32) (n : Nat) : Bool := decide (¬ x < 0 ∧ ¬ nI n ≤ x)
theorem gl_in_iff {x : Int32} {n : Nat} (hn : n < 2 ^ 31) : gl_in x n = true ↔ ∃ k, k < n ∧ x = nI k := by
  unfold gl_in
  rw [decide_eq_true_iff]
  constructor
  · rintro ⟨h1, h2⟩
    obtain ⟨k, hk, rfl⟩ := nI_of h1
    exact ⟨k, Nat.not_le.mp (fun q => h2 ((nI_leI hn hk).mpr q)), rfl⟩
  · rintro ⟨k, hk, rfl⟩
    exact ⟨nI_pos (by omega), fun q => by have := (nI_leI hn (by omega)).mp q; omega⟩
theorem gl_in_nI {k n : Nat} (hk : k < 2 ^ 31) (hn : n < 2 ^ 31) : gl_in (nI k) n = decide (k < n) := by
  by_cases h : k < n
  · rw [(gl_in_iff hn).mpr ⟨k, h, rfl⟩]; simp [h]
  · rw [decide_eq_false h]
    cases hq : gl_in (nI k) n with
    | false => rfl
    | true =>
      obtain ⟨j, hj, e⟩ := (gl_in_iff hn).mp hq
      have := (nI_eq hk (by omega)).mp e
      omega
theorem gl_in_t {x : Int32} {n : Nat} (h1 : ¬ x < 0) (h2 : ¬ nI n ≤ x) : gl_in x n = true := decide_eq_true ⟨h1, h2⟩
theorem gl_in_f1 {x : Int32} {n : Nat} (h : x < 0) : gl_in x n = false := decide_eq_false (fun q => q.1 h)
theorem gl_in_f2 {x : Int32} {n : Nat} (h : nI n ≤ x) : gl_in x n = false := decide_eq_false (fun q => q.2 h)
set_option maxHeartbeats 4000000 in
set_option maxRecDepth 100000 in
theorem ct_X9_isLog {l : Launch} {δ : gl_Del} {I : Nat → Nat → Int32} {L : Nat → Nat → Int64} {B : Nat → Nat → Bool} {x : Int32} {lm : Nat} (h : Nat) (hh : 1 ≤ h) (hm : I 0 1 = nI lm) : gl_Ct l δ yX9_isLog (ws_ yX9_isLog cX9_isLog 2 ((some FieldType.boolean))) (gl_rm h 0 0) 0 0 [.ref 0, .int x] (gl_mL, I, L, B, gl_mR) (gl_Qi fun r S => r = b2i (gl_in x lm) ∧ S = (gl_mL, I, L, B, gl_mR)) := by
  refine gl_of (by decide) (Nat.le_of_ble_eq_true rfl) rfl ?_
  intro κ C hQ hlκ hδκ hnL hini
  change gl_Cx κ RX9 _ _ _ at C
  refine j_iload_n C dX9_isLog_0 rfl 1 rfl ?_
  refine j_if_lt C 16 4 dX9_isLog_1 (by decide) rfl (fun c_1 => ?_) (fun c_1 => ?_)
  · refine j_iconst (v := b2i false) C dX9_isLog_16 (by decide) 17 rfl ?_
    exact j_zret C hQ ⟨by rw [gl_in_f1 c_1], rfl⟩ (by omega) (by omega) dX9_isLog_17
  · refine j_iload_n C dX9_isLog_4 rfl 5 rfl ?_
    refine j_aload_n C dX9_isLog_5 rfl 6 rfl ?_
    refine gf_X9_267 C rfl dX9_isLog_6 9 rfl ?_
    rw [hm]
    refine j_icmp_ge C 16 12 dX9_isLog_9 (by decide) rfl (fun c_9 => ?_) (fun c_9 => ?_)
    · refine j_iconst (v := b2i false) C dX9_isLog_16 (by decide) 17 rfl ?_
      exact j_zret C hQ ⟨by rw [gl_in_f2 c_9], rfl⟩ (by omega) (by omega) dX9_isLog_17
    · refine j_iconst (v := b2i true) C dX9_isLog_12 (by decide) 13 rfl ?_
      refine j_goto (tgt := 17) C dX9_isLog_13 (by decide) ?_
      exact j_zret C hQ ⟨by rw [gl_in_t c_1 c_9], rfl⟩ (by omega) (by omega) dX9_isLog_17
set_option maxHeartbeats 4000000 in
set_option maxRecDepth 100000 in
theorem ct_X9_isSlot {l : Launch} {δ : gl_Del} {I : Nat → Nat → Int32} {L : Nat → Nat → Int64} {B : Nat → Nat → Bool} {x : Int32} (h : Nat) (hh : 1 ≤ h)  : gl_Ct l δ yX9_isSlot (ws_ yX9_isSlot cX9_isSlot 2 ((some FieldType.boolean))) (gl_rm h 0 0) 0 0 [.ref 0, .int x] (gl_mL, I, L, B, gl_mR) (gl_Qi fun r S => r = b2i (gl_in x 16) ∧ S = (gl_mL, I, L, B, gl_mR)) := by
  refine gl_of (by decide) (Nat.le_of_ble_eq_true rfl) rfl ?_
  intro κ C hQ hlκ hδκ hnL hini
  change gl_Cx κ RX9 _ _ _ at C
  refine j_iload_n C dX9_isSlot_0 rfl 1 rfl ?_
  refine j_if_lt C 14 4 dX9_isSlot_1 (by decide) rfl (fun c_1 => ?_) (fun c_1 => ?_)
  · refine j_iconst (v := b2i false) C dX9_isSlot_14 (by decide) 15 rfl ?_
    exact j_zret C hQ ⟨by rw [gl_in_f1 c_1], rfl⟩ (by omega) (by omega) dX9_isSlot_15
  · refine j_iload_n C dX9_isSlot_4 rfl 5 rfl ?_
    refine j_bipush (v := nI 16) C dX9_isSlot_5 (by decide) 7 rfl ?_
    refine j_icmp_ge C 14 10 dX9_isSlot_7 (by decide) rfl (fun c_7 => ?_) (fun c_7 => ?_)
    · refine j_iconst (v := b2i false) C dX9_isSlot_14 (by decide) 15 rfl ?_
      exact j_zret C hQ ⟨by rw [gl_in_f2 c_7], rfl⟩ (by omega) (by omega) dX9_isSlot_15
    · refine j_iconst (v := b2i true) C dX9_isSlot_10 (by decide) 11 rfl ?_
      refine j_goto (tgt := 15) C dX9_isSlot_11 (by decide) ?_
      exact j_zret C hQ ⟨by rw [gl_in_t c_1 c_7], rfl⟩ (by omega) (by omega) dX9_isSlot_15
set_option maxHeartbeats 4000000 in
set_option maxRecDepth 100000 in
theorem ct_X9_isReader {l : Launch} {δ : gl_Del} {I : Nat → Nat → Int32} {L : Nat → Nat → Int64} {B : Nat → Nat → Bool} {x : Int32} (h : Nat) (hh : 1 ≤ h)  : gl_Ct l δ yX9_isReader (ws_ yX9_isReader cX9_isReader 2 ((some FieldType.boolean))) (gl_rm h 0 0) 0 0 [.ref 0, .int x] (gl_mL, I, L, B, gl_mR) (gl_Qi fun r S => r = b2i (gl_in x 12) ∧ S = (gl_mL, I, L, B, gl_mR)) := by
  refine gl_of (by decide) (Nat.le_of_ble_eq_true rfl) rfl ?_
  intro κ C hQ hlκ hδκ hnL hini
  change gl_Cx κ RX9 _ _ _ at C
  refine j_iload_n C dX9_isReader_0 rfl 1 rfl ?_
  refine j_if_lt C 14 4 dX9_isReader_1 (by decide) rfl (fun c_1 => ?_) (fun c_1 => ?_)
  · refine j_iconst (v := b2i false) C dX9_isReader_14 (by decide) 15 rfl ?_
    exact j_zret C hQ ⟨by rw [gl_in_f1 c_1], rfl⟩ (by omega) (by omega) dX9_isReader_15
  · refine j_iload_n C dX9_isReader_4 rfl 5 rfl ?_
    refine j_bipush (v := nI 12) C dX9_isReader_5 (by decide) 7 rfl ?_
    refine j_icmp_ge C 14 10 dX9_isReader_7 (by decide) rfl (fun c_7 => ?_) (fun c_7 => ?_)
    · refine j_iconst (v := b2i false) C dX9_isReader_14 (by decide) 15 rfl ?_
      exact j_zret C hQ ⟨by rw [gl_in_f2 c_7], rfl⟩ (by omega) (by omega) dX9_isReader_15
    · refine j_iconst (v := b2i true) C dX9_isReader_10 (by decide) 11 rfl ?_
      refine j_goto (tgt := 15) C dX9_isReader_11 (by decide) ?_
      exact j_zret C hQ ⟨by rw [gl_in_t c_1 c_7], rfl⟩ (by omega) (by omega) dX9_isReader_15
set_option maxHeartbeats 4000000 in
set_option maxRecDepth 100000 in
theorem ct_X9_isWatcher {l : Launch} {δ : gl_Del} {I : Nat → Nat → Int32} {L : Nat → Nat → Int64} {B : Nat → Nat → Bool} {x : Int32} (h : Nat) (hh : 1 ≤ h)  : gl_Ct l δ yX9_isWatcher (ws_ yX9_isWatcher cX9_isWatcher 2 ((some FieldType.boolean))) (gl_rm h 0 0) 0 0 [.ref 0, .int x] (gl_mL, I, L, B, gl_mR) (gl_Qi fun r S => r = b2i (gl_in x 8) ∧ S = (gl_mL, I, L, B, gl_mR)) := by
  refine gl_of (by decide) (Nat.le_of_ble_eq_true rfl) rfl ?_
  intro κ C hQ hlκ hδκ hnL hini
  change gl_Cx κ RX9 _ _ _ at C
  refine j_iload_n C dX9_isWatcher_0 rfl 1 rfl ?_
  refine j_if_lt C 14 4 dX9_isWatcher_1 (by decide) rfl (fun c_1 => ?_) (fun c_1 => ?_)
  · refine j_iconst (v := b2i false) C dX9_isWatcher_14 (by decide) 15 rfl ?_
    exact j_zret C hQ ⟨by rw [gl_in_f1 c_1], rfl⟩ (by omega) (by omega) dX9_isWatcher_15
  · refine j_iload_n C dX9_isWatcher_4 rfl 5 rfl ?_
    refine j_bipush (v := nI 8) C dX9_isWatcher_5 (by decide) 7 rfl ?_
    refine j_icmp_ge C 14 10 dX9_isWatcher_7 (by decide) rfl (fun c_7 => ?_) (fun c_7 => ?_)
    · refine j_iconst (v := b2i false) C dX9_isWatcher_14 (by decide) 15 rfl ?_
      exact j_zret C hQ ⟨by rw [gl_in_f2 c_7], rfl⟩ (by omega) (by omega) dX9_isWatcher_15
    · refine j_iconst (v := b2i true) C dX9_isWatcher_10 (by decide) 11 rfl ?_
      refine j_goto (tgt := 15) C dX9_isWatcher_11 (by decide) ?_
      exact j_zret C hQ ⟨by rw [gl_in_t c_1 c_7], rfl⟩ (by omega) (by omega) dX9_isWatcher_15
set_option maxHeartbeats 4000000 in
set_option maxRecDepth 100000 in
theorem ct_X9_many {l : Launch} {δ : gl_Del} {I : Nat → Nat → Int32} {L : Nat → Nat → Int64} {B : Nat → Nat → Bool} {lg : Nat} (h : Nat) (hh : 1 ≤ h) (hl : lg < 6) : gl_Ct l δ yX9_many (ws_ yX9_many cX9_many 2 ((some FieldType.int))) (gl_rm h 0 0) 0 0 [.ref 0, .int (nI lg)] (gl_mL, I, L, B, gl_mR) (gl_Qi fun r S => r = I 1 (4 * lg + 1) ∧ S = (gl_mL, I, L, B, gl_mR)) := by
  refine gl_of (by decide) (Nat.le_of_ble_eq_true rfl) rfl ?_
  intro κ C hQ hlκ hδκ hnL hini
  change gl_Cx κ RX9 _ _ _ at C
  refine j_aload_n C dX9_many_0 rfl 1 rfl ?_
  refine gf_X9_9 C rfl rfl dX9_many_1 4 rfl ?_
  refine j_iconst (v := nI 4) C dX9_many_4 (by decide) 5 rfl ?_
  refine j_iload_n C dX9_many_5 rfl 6 rfl ?_
  refine n_imul C dX9_many_6 7 rfl ?_
  refine j_iconst (v := nI 1) C dX9_many_7 (by decide) 8 rfl ?_
  refine n_iadd C dX9_many_8 9 rfl ?_
  refine j_iald C rfl (by omega) (by decide) dX9_many_9 10 rfl ?_
  exact j_iret C hQ ⟨rfl, rfl⟩ (by omega) (by omega) dX9_many_10
/-- a log, and a count of it -/
def gl_ic (I : Nat → Nat → Int32) (lm : Nat) (x n : Int32) : Bool := gl_in x lm && decide (¬ n < 0 ∧ ¬ I 1 (4 * x.toNatClampNeg + 1) < n)
set_option maxHeartbeats 4000000 in
set_option maxRecDepth 100000 in
theorem ct_X9_isCount {l : Launch} {δ : gl_Del} {I : Nat → Nat → Int32} {L : Nat → Nat → Int64} {B : Nat → Nat → Bool} {x n : Int32} {lm : Nat} (h : Nat) (hh : 2 ≤ h) (hm : I 0 1 = nI lm) (hlm : lm ≤ 6) : gl_Ct l δ yX9_isCount (ws_ yX9_isCount cX9_isCount 3 ((some FieldType.boolean))) (gl_rm h 0 0) 0 0 [.ref 0, .int x, .int n] (gl_mL, I, L, B, gl_mR) (gl_Qi fun r S => r = b2i (gl_ic I lm x n) ∧ S = (gl_mL, I, L, B, gl_mR)) := by
  refine gl_of (by decide) (Nat.le_of_ble_eq_true rfl) rfl ?_
  intro κ C hQ hlκ hδκ hnL hini
  change gl_Cx κ RX9 _ _ _ at C
  refine j_aload_n C dX9_isCount_0 rfl 1 rfl ?_
  refine j_iload_n C dX9_isCount_1 rfl 2 rfl ?_
  refine j_ci C (cs_X9_270 C (ct_X9_isLog (h - 1) (by omega) hm) rfl rfl (by omega) (by omega) (by omega) rfl (Nat.le_of_ble_eq_true rfl) dX9_isCount_2) 5 rfl ?_
  rintro _ _ ⟨rfl, rfl⟩
  refine b_if_eq C 25 8 dX9_isCount_5 (by decide) rfl (fun c_5 => ?_) (fun c_5 => ?_)
  · refine j_iconst (v := b2i false) C dX9_isCount_25 (by decide) 26 rfl ?_
    exact j_zret C hQ ⟨by rw [gl_ic, c_5]; rfl, rfl⟩ (by omega) (by omega) dX9_isCount_26
  · obtain ⟨lg, hlg, rfl⟩ := (gl_in_iff (by omega)).mp c_5
    have hcl : (nI lg).toNatClampNeg = lg := nI_clamp (by omega)
    refine j_iload_n C dX9_isCount_8 rfl 9 rfl ?_
    refine j_if_lt C 25 12 dX9_isCount_9 (by decide) rfl (fun c_9 => ?_) (fun c_9 => ?_)
    · refine j_iconst (v := b2i false) C dX9_isCount_25 (by decide) 26 rfl ?_
      exact j_zret C hQ ⟨by rw [gl_ic, c_5, decide_eq_false (fun q => q.1 c_9)]; rfl, rfl⟩ (by omega) (by omega) dX9_isCount_26
    · refine j_iload_n C dX9_isCount_12 rfl 13 rfl ?_
      refine j_aload_n C dX9_isCount_13 rfl 14 rfl ?_
      refine j_iload_n C dX9_isCount_14 rfl 15 rfl ?_
      refine j_ci C (cs_X9_274 C (ct_X9_many (h - 1) (by omega) (by omega)) rfl rfl (by omega) (by omega) (by omega) rfl (Nat.le_of_ble_eq_true rfl) dX9_isCount_15) 18 rfl ?_
      rintro _ _ ⟨rfl, rfl⟩
      refine j_icmp_gt C 25 21 dX9_isCount_18 (by decide) rfl (fun c_18 => ?_) (fun c_18 => ?_)
      · refine j_iconst (v := b2i false) C dX9_isCount_25 (by decide) 26 rfl ?_
        exact j_zret C hQ ⟨by rw [gl_ic, c_5, hcl, decide_eq_false (fun q => q.2 c_18)]; rfl, rfl⟩ (by omega) (by omega) dX9_isCount_26
      · refine j_iconst (v := b2i true) C dX9_isCount_21 (by decide) 22 rfl ?_
        refine j_goto (tgt := 26) C dX9_isCount_22 (by decide) ?_
        exact j_zret C hQ ⟨by rw [gl_ic, c_5, hcl, decide_eq_true (And.intro c_9 c_18)]; rfl, rfl⟩ (by omega) (by omega) dX9_isCount_26
/-- the first place of a key among n, n without -/
def gl_ff (f : Nat → Int32) (key : Int32) : Nat → Nat → Nat
  | 0, k => k
  | n + 1, k => if f k = key then k else gl_ff f key n (k + 1)
theorem gl_ff_le {f : Nat → Int32} {key : Int32} : ∀ (n k : Nat), gl_ff f key n k ≤ k + n
  | 0, k => Nat.le_refl _
  | n + 1, k => by
    unfold gl_ff
    by_cases h : f k = key
    · rw [if_pos h]; omega
    · rw [if_neg h]
      have := gl_ff_le (f := f) (key := key) n (k + 1)
      omega
theorem gl_ff_ge {f : Nat → Int32} {key : Int32} : ∀ (n k : Nat), k ≤ gl_ff f key n k
  | 0, k => Nat.le_refl _
  | n + 1, k => by
    unfold gl_ff
    by_cases h : f k = key
    · rw [if_pos h]; omega
    · rw [if_neg h]
      have := gl_ff_ge (f := f) (key := key) n (k + 1)
      omega
theorem gl_ff_hit {f : Nat → Int32} {key : Int32} : ∀ (n k : Nat), gl_ff f key n k < k + n → f (gl_ff f key n k) = key
  | 0, k, h => absurd h (by unfold gl_ff; omega)
  | n + 1, k, h => by
    unfold gl_ff at h ⊢
    by_cases hq : f k = key
    · rw [if_pos hq]; exact hq
    · rw [if_neg hq] at h ⊢
      exact gl_ff_hit n (k + 1) (by omega)
theorem gl_ff_no {f : Nat → Int32} {key : Int32} : ∀ (n k j : Nat), k ≤ j → j < gl_ff f key n k → f j ≠ key
  | 0, k, j, h1, h2 => absurd h2 (by unfold gl_ff; omega)
  | n + 1, k, j, h1, h2 => by
    unfold gl_ff at h2
    by_cases hq : f k = key
    · rw [if_pos hq] at h2; omega
    · rw [if_neg hq] at h2
      by_cases hj : j = k
      · subst hj; exact hq
      · exact gl_ff_no n (k + 1) j (by omega) h2
/-- what 'word' answers -/
def gl_wd (f : Nat → Int32) (ky : Int32) (n lg : Nat) : Int32 := if gl_ff f ky n 0 < n then nI (100 * lg + gl_ff f ky n 0) else -1
set_option maxHeartbeats 4000000 in
set_option maxRecDepth 100000 in
theorem ct_X9_word {l : Launch} {δ : gl_Del} {I : Nat → Nat → Int32} {L : Nat → Nat → Int64} {B : Nat → Nat → Bool} {lg n : Nat} {ky : Int32} (h : Nat) (hh : 1 ≤ h) (hl : lg < 6) (hn : I 1 (4 * lg + 2) + I 1 (4 * lg + 3) = nI n) (hb : n ≤ 100) : gl_Ct l δ yX9_word (ws_ yX9_word cX9_word 5 ((some FieldType.int))) (gl_rm h 0 0) 0 0 [.ref 0, .int (nI lg), .int ky] (gl_mL, I, L, B, gl_mR) (gl_Qi fun r S => r = gl_wd (fun t => I 6 (100 * lg + t)) ky n lg ∧ S = (gl_mL, I, L, B, gl_mR)) := by
  refine gl_of (by decide) (Nat.le_of_ble_eq_true rfl) rfl ?_
  intro κ C hQ hlκ hδκ hnL hini
  change gl_Cx κ RX9 _ _ _ at C
  have loop : ∀ k j : Nat, j + k = n → gl_ff (fun t => I 6 (100 * lg + t)) ky k j = gl_ff (fun t => I 6 (100 * lg + t)) ky n 0 → gl_J κ 0 0 (gl_mL, I, L, B, gl_mR) 25 [some (.ref 0), some (.int (nI lg)), some (.int ky), some (.int (nI n)), some (.int (nI j))] [] := by
    intro k
    induction k with
    | zero =>
      intro j hj hres
      have hjN : j = n := by omega
      subst hjN
      refine j_iload C dX9_word_25 rfl 27 rfl ?_
      refine j_iload_n C dX9_word_27 rfl 28 rfl ?_
      refine n_icmp_ge C 61 31 dX9_word_28 (by decide) rfl (by omega) (by omega) (fun c_28 => ?_) (fun c_28 => ?_)
      · refine j_iconst (v := -1) C dX9_word_61 (by decide) 62 rfl ?_
        exact j_iret C hQ ⟨by rw [gl_wd, if_neg (by rw [← hres]; exact Nat.lt_irrefl _)], rfl⟩ (by omega) (by omega) dX9_word_62
      · exact absurd c_28 (by omega)
    | succ k ih =>
      intro j hj hres
      refine j_iload C dX9_word_25 rfl 27 rfl ?_
      refine j_iload_n C dX9_word_27 rfl 28 rfl ?_
      refine n_icmp_ge C 61 31 dX9_word_28 (by decide) rfl (by omega) (by omega) (fun c_28 => ?_) (fun c_28 => ?_)
      · exact absurd c_28 (by omega)
      · refine j_aload_n C dX9_word_31 rfl 32 rfl ?_
        refine gf_X9_27 C rfl rfl dX9_word_32 35 rfl ?_
        refine j_bipush (v := nI 100) C dX9_word_35 (by decide) 37 rfl ?_
        refine j_iload_n C dX9_word_37 rfl 38 rfl ?_
        refine n_imul C dX9_word_38 39 rfl ?_
        refine j_iload C dX9_word_39 rfl 41 rfl ?_
        refine n_iadd C dX9_word_41 42 rfl ?_
        refine j_iald C rfl (by omega) (by decide) dX9_word_42 43 rfl ?_
        refine j_iload_n C dX9_word_43 rfl 44 rfl ?_
        refine j_icmp_ne C 55 47 dX9_word_44 (by decide) rfl (fun c_44 => ?_) (fun c_44 => ?_)
        · refine n_iinc C dX9_word_55 rfl (by rw [hnL]; decide) rfl 58 rfl ?_
          refine j_goto (tgt := 25) C dX9_word_58 (by decide) ?_
          refine ih (j + 1) (by omega) ?_
          rw [← hres, gl_ff, if_neg c_44]
        · refine j_bipush (v := nI 100) C dX9_word_47 (by decide) 49 rfl ?_
          refine j_iload_n C dX9_word_49 rfl 50 rfl ?_
          refine n_imul C dX9_word_50 51 rfl ?_
          refine j_iload C dX9_word_51 rfl 53 rfl ?_
          refine n_iadd C dX9_word_53 54 rfl ?_
          exact j_iret C hQ ⟨by rw [gl_wd, ← hres, gl_ff, if_pos c_44, if_pos (by omega)], rfl⟩ (by omega) (by omega) dX9_word_54
  refine j_aload_n C dX9_word_0 rfl 1 rfl ?_
  refine gf_X9_9 C rfl rfl dX9_word_1 4 rfl ?_
  refine j_iconst (v := nI 4) C dX9_word_4 (by decide) 5 rfl ?_
  refine j_iload_n C dX9_word_5 rfl 6 rfl ?_
  refine n_imul C dX9_word_6 7 rfl ?_
  refine j_iconst (v := nI 2) C dX9_word_7 (by decide) 8 rfl ?_
  refine n_iadd C dX9_word_8 9 rfl ?_
  refine j_iald C rfl (by omega) (by decide) dX9_word_9 10 rfl ?_
  refine j_aload_n C dX9_word_10 rfl 11 rfl ?_
  refine gf_X9_9 C rfl rfl dX9_word_11 14 rfl ?_
  refine j_iconst (v := nI 4) C dX9_word_14 (by decide) 15 rfl ?_
  refine j_iload_n C dX9_word_15 rfl 16 rfl ?_
  refine n_imul C dX9_word_16 17 rfl ?_
  refine j_iconst (v := nI 3) C dX9_word_17 (by decide) 18 rfl ?_
  refine n_iadd C dX9_word_18 19 rfl ?_
  refine j_iald C rfl (by omega) (by decide) dX9_word_19 20 rfl ?_
  refine j_iadd C dX9_word_20 21 rfl ?_
  rw [hn]
  refine j_istore_n C dX9_word_21 (Nat.le_of_ble_eq_true rfl) (by rw [hnL]; decide) rfl 22 rfl ?_
  refine j_iconst (v := nI 0) C dX9_word_22 (by decide) 23 rfl ?_
  refine j_istore C dX9_word_23 (Nat.le_of_ble_eq_true rfl) (by rw [hnL]; decide) rfl 25 rfl ?_
  exact loop n 0 (by omega) rfl
def gl_fd (f : Nat → Int32) (ky : Int32) (n : Nat) : Int32 := if gl_ff f ky n 0 < n then nI (gl_ff f ky n 0) else -1
set_option maxHeartbeats 4000000 in
set_option maxRecDepth 100000 in
theorem ct_X9_find {l : Launch} {δ : gl_Del} {I : Nat → Nat → Int32} {L : Nat → Nat → Int64} {B : Nat → Nat → Bool} {n : Nat} {ky : Int32} (h : Nat) (hh : 1 ≤ h) (hn : I 0 57 = nI n) (hb : n ≤ 400) : gl_Ct l δ yX9_find (ws_ yX9_find cX9_find 3 ((some FieldType.int))) (gl_rm h 0 0) 0 0 [.ref 0, .int ky] (gl_mL, I, L, B, gl_mR) (gl_Qi fun r S => r = gl_fd (I 47) ky n ∧ S = (gl_mL, I, L, B, gl_mR)) := by
  refine gl_of (by decide) (Nat.le_of_ble_eq_true rfl) rfl ?_
  intro κ C hQ hlκ hδκ hnL hini
  change gl_Cx κ RX9 _ _ _ at C
  have loop : ∀ k j : Nat, j + k = n → gl_ff (I 47) ky k j = gl_ff (I 47) ky n 0 → gl_J κ 0 0 (gl_mL, I, L, B, gl_mR) 2 [some (.ref 0), some (.int ky), some (.int (nI j))] [] := by
    intro k
    induction k with
    | zero =>
      intro j hj hres
      have hjN : j = n := by omega
      subst hjN
      refine j_iload_n C dX9_find_2 rfl 3 rfl ?_
      refine j_aload_n C dX9_find_3 rfl 4 rfl ?_
      refine gf_X9_223 C rfl dX9_find_4 7 rfl ?_
      rw [hn]
      refine n_icmp_ge C 28 10 dX9_find_7 (by decide) rfl (by omega) (by omega) (fun c_7 => ?_) (fun c_7 => ?_)
      · refine j_iconst (v := -1) C dX9_find_28 (by decide) 29 rfl ?_
        exact j_iret C hQ ⟨by rw [gl_fd, if_neg (by rw [← hres]; exact Nat.lt_irrefl _)], rfl⟩ (by omega) (by omega) dX9_find_29
      · exact absurd c_7 (by omega)
    | succ k ih =>
      intro j hj hres
      refine j_iload_n C dX9_find_2 rfl 3 rfl ?_
      refine j_aload_n C dX9_find_3 rfl 4 rfl ?_
      refine gf_X9_223 C rfl dX9_find_4 7 rfl ?_
      rw [hn]
      refine n_icmp_ge C 28 10 dX9_find_7 (by decide) rfl (by omega) (by omega) (fun c_7 => ?_) (fun c_7 => ?_)
      · exact absurd c_7 (by omega)
      · refine j_aload_n C dX9_find_10 rfl 11 rfl ?_
        refine gf_X9_151 C rfl rfl dX9_find_11 14 rfl ?_
        refine j_iload_n C dX9_find_14 rfl 15 rfl ?_
        refine j_iald C rfl (by omega) (by decide) dX9_find_15 16 rfl ?_
        refine j_iload_n C dX9_find_16 rfl 17 rfl ?_
        refine j_icmp_ne C 22 20 dX9_find_17 (by decide) rfl (fun c_17 => ?_) (fun c_17 => ?_)
        · refine n_iinc C dX9_find_22 rfl (by rw [hnL]; decide) rfl 25 rfl ?_
          refine j_goto (tgt := 2) C dX9_find_25 (by decide) ?_
          refine ih (j + 1) (by omega) ?_
          rw [← hres, gl_ff, if_neg c_17]
        · refine j_iload_n C dX9_find_20 rfl 21 rfl ?_
          exact j_iret C hQ ⟨by rw [gl_fd, ← hres, gl_ff, if_pos c_17, if_pos (by omega)], rfl⟩ (by omega) (by omega) dX9_find_21
  refine j_iconst (v := nI 0) C dX9_find_0 (by decide) 1 rfl ?_
  refine j_istore_n C dX9_find_1 (Nat.le_of_ble_eq_true rfl) (by rw [hnL]; decide) rfl 2 rfl ?_
  exact loop n 0 (by omega) rfl
/-- whether entry i with a key counts in the map at n; w: where its word is (wn: none) -/
def gl_cn (f : Nat → Int32) (sn : Nat → Nat) (hd : Nat → Bool) (wn n i : Nat) (ky : Int32) : Bool := if gl_ff f ky wn 0 < wn then (decide (n < sn (gl_ff f ky wn 0)) || (!hd (gl_ff f ky wn 0) && decide (i < sn (gl_ff f ky wn 0)))) else true
theorem gl_nm1 {k : Nat} (h : k < 2 ^ 30) : ¬ nI k = -1 := by
  intro q
  have h1 := nI_pos (n := k) (by omega)
  rw [q] at h1
  exact h1 (by decide)
set_option maxHeartbeats 4000000 in
set_option maxRecDepth 100000 in
theorem ct_X9_counts {l : Launch} {δ : gl_Del} {I : Nat → Nat → Int32} {L : Nat → Nat → Int64} {B : Nat → Nat → Bool} {lg n i wn : Nat} {sn : Nat → Nat} (h : Nat) (hh : 2 ≤ h) (hl : lg < 6) (hn : I 1 (4 * lg + 2) + I 1 (4 * lg + 3) = nI wn) (hb : wn ≤ 100) (hs : ∀ w, w < wn → I 7 (100 * lg + w) = nI (sn w)) (hsb : ∀ w, w < wn → sn w ≤ 400) (hnb : n ≤ 400) (hi : i < 400) : gl_Ct l δ yX9_counts (ws_ yX9_counts cX9_counts 5 ((some FieldType.boolean))) (gl_rm h 0 0) 0 0 [.ref 0, .int (nI lg), .int (nI n), .int (nI i)] (gl_mL, I, L, B, gl_mR) (gl_Qi fun r S => r = b2i (gl_cn (fun t => I 6 (100 * lg + t)) sn (fun t => B 8 (100 * lg + t)) wn n i (I 2 (400 * lg + i))) ∧ S = (gl_mL, I, L, B, gl_mR)) := by
  refine gl_of (by decide) (Nat.le_of_ble_eq_true rfl) rfl ?_
  intro κ C hQ hlκ hδκ hnL hini
  change gl_Cx κ RX9 _ _ _ at C
  obtain ⟨w, hw⟩ : ∃ w, w = gl_ff (fun t => I 6 (100 * lg + t)) (I 2 (400 * lg + i)) wn 0 := ⟨_, rfl⟩
  have hit : w < wn → gl_J κ 0 0 (gl_mL, I, L, B, gl_mR) 19 [some (.ref 0), some (.int (nI lg)), some (.int (nI n)), some (.int (nI i)), some (.int (nI (100 * lg + w)))] [] := by
    intro hlt
    refine j_iload C dX9_counts_19 rfl 21 rfl ?_
    refine j_iconst (v := -1) C dX9_counts_21 (by decide) 22 rfl ?_
    refine j_icmp_eq C 36 25 dX9_counts_22 (by decide) rfl (fun c_22 => ?_) (fun c_22 => ?_)
    · exact absurd c_22 (gl_nm1 (by omega))
    · refine j_iload_n C dX9_counts_25 rfl 26 rfl ?_
      refine j_aload_n C dX9_counts_26 rfl 27 rfl ?_
      refine gf_X9_30 C rfl rfl dX9_counts_27 30 rfl ?_
      refine j_iload C dX9_counts_30 rfl 32 rfl ?_
      refine j_iald C rfl (by omega) (by decide) dX9_counts_32 33 rfl ?_
      rw [hs w hlt]
      refine n_icmp_ge C 38 36 dX9_counts_33 (by decide) rfl (by omega) (by have := hsb w hlt; omega) (fun c_33 => ?_) (fun c_33 => ?_)
      · refine j_aload_n C dX9_counts_38 rfl 39 rfl ?_
        refine gf_X9_33 C rfl rfl dX9_counts_39 42 rfl ?_
        refine j_iload C dX9_counts_42 rfl 44 rfl ?_
        refine j_zald C rfl (by omega) (by decide) dX9_counts_44 45 rfl ?_
        refine b_if_ne C 63 48 dX9_counts_45 (by decide) rfl (fun c_45 => ?_) (fun c_45 => ?_)
        · refine j_iconst (v := b2i false) C dX9_counts_63 (by decide) 64 rfl ?_
          exact j_zret C hQ ⟨by rw [gl_cn, ← hw, if_pos hlt, decide_eq_false (Nat.not_lt.mpr c_33), c_45]; rfl, rfl⟩ (by omega) (by omega) dX9_counts_64
        · refine j_iload_n C dX9_counts_48 rfl 49 rfl ?_
          refine j_aload_n C dX9_counts_49 rfl 50 rfl ?_
          refine gf_X9_30 C rfl rfl dX9_counts_50 53 rfl ?_
          refine j_iload C dX9_counts_53 rfl 55 rfl ?_
          refine j_iald C rfl (by omega) (by decide) dX9_counts_55 56 rfl ?_
          rw [hs w hlt]
          refine n_icmp_ge C 63 59 dX9_counts_56 (by decide) rfl (by omega) (by have := hsb w hlt; omega) (fun c_56 => ?_) (fun c_56 => ?_)
          · refine j_iconst (v := b2i false) C dX9_counts_63 (by decide) 64 rfl ?_
            exact j_zret C hQ ⟨by rw [gl_cn, ← hw, if_pos hlt, decide_eq_false (Nat.not_lt.mpr c_33), c_45, decide_eq_false (Nat.not_lt.mpr c_56)]; rfl, rfl⟩ (by omega) (by omega) dX9_counts_64
          · refine j_iconst (v := b2i true) C dX9_counts_59 (by decide) 60 rfl ?_
            refine j_goto (tgt := 64) C dX9_counts_60 (by decide) ?_
            exact j_zret C hQ ⟨by rw [gl_cn, ← hw, if_pos hlt, decide_eq_false (Nat.not_lt.mpr c_33), c_45, decide_eq_true c_56]; rfl, rfl⟩ (by omega) (by omega) dX9_counts_64
      · refine j_iconst (v := b2i true) C dX9_counts_36 (by decide) 37 rfl ?_
        exact j_zret C hQ ⟨by rw [gl_cn, ← hw, if_pos hlt, decide_eq_true c_33]; rfl, rfl⟩ (by omega) (by omega) dX9_counts_37
  have miss : wn ≤ w → gl_J κ 0 0 (gl_mL, I, L, B, gl_mR) 19 [some (.ref 0), some (.int (nI lg)), some (.int (nI n)), some (.int (nI i)), some (.int (-1))] [] := by
    intro hge
    refine j_iload C dX9_counts_19 rfl 21 rfl ?_
    refine j_iconst (v := -1) C dX9_counts_21 (by decide) 22 rfl ?_
    refine j_icmp_eq C 36 25 dX9_counts_22 (by decide) rfl (fun c_22 => ?_) (fun c_22 => ?_)
    · refine j_iconst (v := b2i true) C dX9_counts_36 (by decide) 37 rfl ?_
      exact j_zret C hQ ⟨by rw [gl_cn, ← hw, if_neg (Nat.not_lt.mpr hge)], rfl⟩ (by omega) (by omega) dX9_counts_37
    · exact absurd rfl c_22
  refine j_aload_n C dX9_counts_0 rfl 1 rfl ?_
  refine j_iload_n C dX9_counts_1 rfl 2 rfl ?_
  refine j_aload_n C dX9_counts_2 rfl 3 rfl ?_
  refine gf_X9_13 C rfl rfl dX9_counts_3 6 rfl ?_
  refine j_sipush (v := nI 400) C dX9_counts_6 (by decide) 9 rfl ?_
  refine j_iload_n C dX9_counts_9 rfl 10 rfl ?_
  refine n_imul C dX9_counts_10 11 rfl ?_
  refine j_iload_n C dX9_counts_11 rfl 12 rfl ?_
  refine n_iadd C dX9_counts_12 13 rfl ?_
  refine j_iald C rfl (by omega) (by decide) dX9_counts_13 14 rfl ?_
  refine j_ci C (cs_X9_220 C (ct_X9_word (n := wn) (h - 1) (by omega) hl hn hb) rfl rfl (by omega) (by omega) (by omega) rfl (Nat.le_of_ble_eq_true rfl) dX9_counts_14) 17 rfl ?_
  rintro _ _ ⟨rfl, rfl⟩
  refine j_istore C dX9_counts_17 (Nat.le_of_ble_eq_true rfl) (by rw [hnL]; decide) rfl 19 rfl ?_
  rw [gl_wd, ← hw]
  rcases Nat.lt_or_ge w wn with hlt | hge
  · rw [if_pos hlt]
    exact hit hlt
  · rw [if_neg (Nat.not_lt.mpr hge)]
    exact miss hge
/-- bit d of a row -/
def gl_bit (f : Nat → Int32) (d : Nat) : Bool := decide (((f (d / 32)).toUInt32 >>> ((nI (31 - d % 32)).toUInt32 &&& Int32.toUInt32 31)).toInt32 &&& nI 1 = nI 1)
set_option maxHeartbeats 4000000 in
set_option maxRecDepth 100000 in
theorem ct_X9_isOne {l : Launch} {δ : gl_Del} {Λ : gl_Lay} {I : Nat → Nat → Int32} {L : Nat → Nat → Int64} {B : Nat → Nat → Bool} {R : Nat → Nat → Option Nat} {x nx fr d : Nat} (h : Nat) (hh : 1 ≤ h) (hx : Λ.2 x = (0, nx)) (hfr : fr + 8 ≤ nx) (hnx : nx < 2 ^ 31) (hd : d < 256) : gl_Ct l δ yX9_isOne (ws_ yX9_isOne cX9_isOne 3 ((some FieldType.boolean))) (gl_rm h 0 0) 0 0 [.ref x, .int (nI fr), .int (nI d)] (Λ, I, L, B, R) (gl_Qi fun r S => r = b2i (gl_bit (fun t => I x (fr + t)) d) ∧ S = (Λ, I, L, B, R)) := by
  refine gl_of (by decide) (Nat.le_of_ble_eq_true rfl) rfl ?_
  intro κ C hQ hlκ hδκ hnL hini
  change gl_Cx κ RX9 _ _ _ at C
  refine j_aload_n C dX9_isOne_0 rfl 1 rfl ?_
  refine j_iload_n C dX9_isOne_1 rfl 2 rfl ?_
  refine j_iload_n C dX9_isOne_2 rfl 3 rfl ?_
  refine j_bipush (v := nI 32) C dX9_isOne_3 (by decide) 5 rfl ?_
  refine n_idiv C dX9_isOne_5 (by omega) (by omega) (by omega) 6 rfl ?_
  refine n_iadd C dX9_isOne_6 7 rfl ?_
  refine j_iald C hx (by omega) hnx dX9_isOne_7 8 rfl ?_
  refine j_bipush (v := nI 31) C dX9_isOne_8 (by decide) 10 rfl ?_
  refine j_iload_n C dX9_isOne_10 rfl 11 rfl ?_
  refine j_bipush (v := nI 32) C dX9_isOne_11 (by decide) 13 rfl ?_
  refine n_irem C dX9_isOne_13 (by omega) (by omega) (by omega) 14 rfl ?_
  refine n_isub C dX9_isOne_14 (by omega) 15 rfl ?_
  refine j_iushr C dX9_isOne_15 16 rfl ?_
  refine j_iconst (v := nI 1) C dX9_isOne_16 (by decide) 17 rfl ?_
  refine j_iand C dX9_isOne_17 18 rfl ?_
  refine j_iconst (v := nI 1) C dX9_isOne_18 (by decide) 19 rfl ?_
  refine j_icmp_ne C 26 22 dX9_isOne_19 (by decide) rfl (fun c_19 => ?_) (fun c_19 => ?_)
  · refine j_iconst (v := b2i false) C dX9_isOne_26 (by decide) 27 rfl ?_
    exact j_zret C hQ ⟨by rw [gl_bit, decide_eq_false c_19], rfl⟩ (by omega) (by omega) dX9_isOne_27
  · refine j_iconst (v := b2i true) C dX9_isOne_22 (by decide) 23 rfl ?_
    refine j_goto (tgt := 27) C dX9_isOne_23 (by decide) ?_
    exact j_zret C hQ ⟨by rw [gl_bit, decide_eq_true c_19], rfl⟩ (by omega) (by omega) dX9_isOne_27
