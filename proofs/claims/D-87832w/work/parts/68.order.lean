/-! MODULE GlassLog: Math.max, Math.min, Integer.compare, compareUnsigned, reads of watchers, ways in order (by gen68.py) -/
set_option maxRecDepth 100000
set_option maxHeartbeats 4000000 in
set_option maxRecDepth 100000 in
theorem ct_J0_compare {l : Launch} {δ : gl_Del} {S : gl_Sto} {a b : Int32} (h : Nat) (hh : 1 ≤ h)  : gl_Ct l δ yJ0_compare (ws_ yJ0_compare cJ0_compare 2 ((some FieldType.int))) (gl_rm h 0 0) 0 0 [.int a, .int b] S (gl_Qi fun r S1 => r = (if a < b then -1 else if a = b then nI 0 else nI 1) ∧ S1 = S) := by
  refine gl_of (by decide) (Nat.le_of_ble_eq_true rfl) rfl ?_
  intro κ C hQ hlκ hδκ hnL hini
  change gl_Cx κ RJ0 _ _ _ at C
  refine j_iload_n C dJ0_compare_0 rfl 1 rfl ?_
  refine j_iload_n C dJ0_compare_1 rfl 2 rfl ?_
  refine j_icmp_ge C 9 5 dJ0_compare_2 (by decide) rfl (fun c_2 => ?_) (fun c_2 => ?_)
  · refine j_iload_n C dJ0_compare_9 rfl 10 rfl ?_
    refine j_iload_n C dJ0_compare_10 rfl 11 rfl ?_
    refine j_icmp_ne C 18 14 dJ0_compare_11 (by decide) rfl (fun c_11 => ?_) (fun c_11 => ?_)
    · refine j_iconst (v := nI 1) C dJ0_compare_18 (by decide) 19 rfl ?_
      exact j_iret C hQ ⟨by rw [if_neg (Int32.not_lt.mpr c_2), if_neg c_11], rfl⟩ (by omega) (by omega) dJ0_compare_19
    · refine j_iconst (v := nI 0) C dJ0_compare_14 (by decide) 15 rfl ?_
      refine j_goto (tgt := 19) C dJ0_compare_15 (by decide) ?_
      exact j_iret C hQ ⟨by rw [if_neg (Int32.not_lt.mpr c_2), if_pos c_11], rfl⟩ (by omega) (by omega) dJ0_compare_19
  · refine j_iconst (v := -1) C dJ0_compare_5 (by decide) 6 rfl ?_
    refine j_goto (tgt := 19) C dJ0_compare_6 (by decide) ?_
    exact j_iret C hQ ⟨by rw [if_pos (Int32.not_le.mp c_2)], rfl⟩ (by omega) (by omega) dJ0_compare_19
/-- an int as an unsigned number -/
def gl_uv (x : Int32) : Nat := x.toBitVec.toNat
theorem gl_uv_lt (x : Int32) : gl_uv x < 2 ^ 32 := x.toBitVec.isLt
theorem gl_uv_inj {x y : Int32} (h : gl_uv x = gl_uv y) : x = y := Int32.toBitVec_inj.mp (BitVec.toNat_inj.mp h)
theorem gl_uv_m (x : Int32) : (x + (-2147483648)).toInt = (gl_uv x : Int) - 2147483648 := by
  have h := x.toBitVec.isLt
  rw [Int32.toInt_add, show (-2147483648 : Int32).toInt = -2147483648 from rfl, show x.toInt = x.toBitVec.toInt from rfl, BitVec.toInt_eq_toNat_bmod]
  unfold gl_uv
  simp only [Int.bmod_def]
  omega
def gl_cu (x y : Int32) : Int32 := if gl_uv x < gl_uv y then -1 else if x = y then nI 0 else nI 1
theorem gl_cu_eq (x y : Int32) : (if x + (-2147483648) < y + (-2147483648) then (-1 : Int32) else if x + (-2147483648) = y + (-2147483648) then nI 0 else nI 1) = gl_cu x y := by
  unfold gl_cu
  have e1 : (x + (-2147483648) < y + (-2147483648)) ↔ gl_uv x < gl_uv y := by
    rw [Int32.lt_iff_toInt_lt, gl_uv_m, gl_uv_m]
    omega
  have e2 : (x + (-2147483648) = y + (-2147483648)) ↔ x = y := ⟨gl_add_inj, fun h => by rw [h]⟩
  simp only [e1, e2]
set_option maxHeartbeats 4000000 in
set_option maxRecDepth 100000 in
theorem ct_J0_compareUnsigned {l : Launch} {δ : gl_Del} {S : gl_Sto} {a b : Int32} (h : Nat) (hh : 2 ≤ h)  : gl_Ct l δ yJ0_compareUnsigned (ws_ yJ0_compareUnsigned cJ0_compareUnsigned 2 ((some FieldType.int))) (gl_rm h 0 0) 0 0 [.int a, .int b] S (gl_Qi fun r S1 => r = gl_cu a b ∧ S1 = S) := by
  refine gl_of (by decide) (Nat.le_of_ble_eq_true rfl) rfl ?_
  intro κ C hQ hlκ hδκ hnL hini
  change gl_Cx κ RJ0 _ _ _ at C
  refine j_iload_n C dJ0_compareUnsigned_0 rfl 1 rfl ?_
  refine j_ldc C q503 dJ0_compareUnsigned_1 3 rfl ?_
  refine j_iadd C dJ0_compareUnsigned_3 4 rfl ?_
  refine j_iload_n C dJ0_compareUnsigned_4 rfl 5 rfl ?_
  refine j_ldc C q503 dJ0_compareUnsigned_5 7 rfl ?_
  refine j_iadd C dJ0_compareUnsigned_7 8 rfl ?_
  refine j_ci C (cs_J0_259 C (ct_J0_compare (h - 1) (by omega)) rfl (by omega) (by omega) (by omega) rfl (Nat.le_of_ble_eq_true rfl) dJ0_compareUnsigned_8) 11 rfl ?_
  rintro r _ ⟨hr_, rfl⟩
  exact j_iret C hQ ⟨hr_.trans (gl_cu_eq a b), rfl⟩ (by omega) (by omega) dJ0_compareUnsigned_11
set_option maxHeartbeats 4000000 in
set_option maxRecDepth 100000 in
theorem ct_X5_reads {l : Launch} {δ : gl_Del} {Λ : gl_Lay} {I : Nat → Nat → Int32} {L : Nat → Nat → Int64} {B : Nat → Nat → Bool} {R : Nat → Nat → Option Nat} {w n : Nat} {ky x : Int32} (h : Nat) (hh : 2 ≤ h) (hL : gl_TL Λ R w) (hn : I w 6 = nI n) (hnb : n < 400) : gl_Ct l δ yX5_reads (ws_ yX5_reads cX5_reads 4 none) (gl_rm h 0 0) 0 0 [.ref w, .int ky, .int x] (Λ, I, L, B, R) (gl_Qv fun S => S = (Λ, gl_u2 (gl_u2 (gl_u2 I (w + 1) (gl_ff (I (w + 1)) ky n 0) ky) (w + 2) (gl_ff (I (w + 1)) ky n 0) x) w 6 (nI (max n ((gl_ff (I (w + 1)) ky n 0) + 1))), L, B, R)) := by
  refine gl_of (by decide) (Nat.le_of_ble_eq_true rfl) rfl ?_
  intro κ C hQ hlκ hδκ hnL hini
  change gl_Cx κ RX5 _ _ _ at C
  have fin : ∀ k : Nat, k = gl_ff (I (w + 1)) ky n 0 → k ≤ n → gl_J κ 0 0 (Λ, I, L, B, R) 26 [some (.ref w), some (.int ky), some (.int x), some (.int (nI k))] [] := by
    intro k hk hkn
    refine j_aload_n C dX5_reads_26 rfl 27 rfl ?_
    refine gf_X5_9 C hL.o hL.r0 dX5_reads_27 30 rfl ?_
    refine j_iload_n C dX5_reads_30 rfl 31 rfl ?_
    refine j_iload_n C dX5_reads_31 rfl 32 rfl ?_
    refine j_iast C hL.k1 (by omega) (by decide) dX5_reads_32 33 rfl ?_
    refine j_aload_n C dX5_reads_33 rfl 34 rfl ?_
    refine gf_X5_15 C hL.o hL.r1 dX5_reads_34 37 rfl ?_
    refine j_iload_n C dX5_reads_37 rfl 38 rfl ?_
    refine j_iload_n C dX5_reads_38 rfl 39 rfl ?_
    refine j_iast C hL.k2 (by omega) (by decide) dX5_reads_39 40 rfl ?_
    refine j_aload_n C dX5_reads_40 rfl 41 rfl ?_
    refine j_aload_n C dX5_reads_41 rfl 42 rfl ?_
    refine gf_X5_18 C hL.o dX5_reads_42 45 rfl ?_
    rw [gl_u2_ne (by omega), gl_u2_ne (by omega), hn]
    refine j_iload_n C dX5_reads_45 rfl 46 rfl ?_
    refine j_iconst (v := nI 1) C dX5_reads_46 (by decide) 47 rfl ?_
    refine n_iadd C dX5_reads_47 48 rfl ?_
    refine j_mmax C q1085 (by omega) (by omega) (by omega) (Nat.le_of_ble_eq_true rfl) dX5_reads_48 51 rfl ?_
    rw [show (if nI n < nI (k + 1) then nI (k + 1) else nI n) = nI (max n (k + 1)) by
        rcases Nat.lt_or_ge n (k + 1) with q | q
        · rw [if_pos ((nI_ltI (by omega) (by omega)).mpr q), Nat.max_eq_right (by omega)]
        · rw [if_neg (fun z => by have := (nI_ltI (by omega) (by omega)).mp z; omega), Nat.max_eq_left (by omega)]]
    refine pf_X5_18 C hL.o dX5_reads_51 54 rfl ?_
    exact j_ret C hQ (by rw [← hk]) (by omega) (by omega) dX5_reads_54
  have loop : ∀ k j : Nat, j + k = n → gl_ff (I (w + 1)) ky k j = gl_ff (I (w + 1)) ky n 0 → gl_J κ 0 0 (Λ, I, L, B, R) 2 [some (.ref w), some (.int ky), some (.int x), some (.int (nI j))] [] := by
    intro k
    induction k with
    | zero =>
      intro j hj hres
      have hjN : j = n := by omega
      subst hjN
      refine j_iload_n C dX5_reads_2 rfl 3 rfl ?_
      refine j_aload_n C dX5_reads_3 rfl 4 rfl ?_
      refine gf_X5_18 C hL.o dX5_reads_4 7 rfl ?_
      rw [hn]
      refine n_icmp_ge C 26 10 dX5_reads_7 (by decide) rfl (by omega) (by omega) (fun c_7 => ?_) (fun c_7 => ?_)
      · exact fin _ hres (Nat.le_refl _)
      · exact absurd c_7 (by omega)
    | succ k ih =>
      intro j hj hres
      refine j_iload_n C dX5_reads_2 rfl 3 rfl ?_
      refine j_aload_n C dX5_reads_3 rfl 4 rfl ?_
      refine gf_X5_18 C hL.o dX5_reads_4 7 rfl ?_
      rw [hn]
      refine n_icmp_ge C 26 10 dX5_reads_7 (by decide) rfl (by omega) (by omega) (fun c_7 => ?_) (fun c_7 => ?_)
      · exact absurd c_7 (by omega)
      · refine j_aload_n C dX5_reads_10 rfl 11 rfl ?_
        refine gf_X5_9 C hL.o hL.r0 dX5_reads_11 14 rfl ?_
        refine j_iload_n C dX5_reads_14 rfl 15 rfl ?_
        refine j_iald C hL.k1 (by omega) (by decide) dX5_reads_15 16 rfl ?_
        refine j_iload_n C dX5_reads_16 rfl 17 rfl ?_
        refine j_icmp_eq C 26 20 dX5_reads_17 (by decide) rfl (fun c_17 => ?_) (fun c_17 => ?_)
        · exact fin _ (by rw [← hres, gl_ff, if_pos c_17]) (by omega)
        · refine n_iinc C dX5_reads_20 rfl (by rw [hnL]; decide) rfl 23 rfl ?_
          refine j_goto (tgt := 2) C dX5_reads_23 (by decide) ?_
          exact ih (j + 1) (by omega) (by rw [← hres, gl_ff, if_neg c_17])
  refine j_iconst (v := nI 0) C dX5_reads_0 (by decide) 1 rfl ?_
  refine j_istore_n C dX5_reads_1 (Nat.le_of_ble_eq_true rfl) (by rw [hnL]; decide) rfl 2 rfl ?_
  exact loop n 0 (by omega) rfl
/-- a row's first ints as one number -/
def gl_vl (f : Nat → Int32) : Nat → Nat
  | 0 => 0
  | k + 1 => gl_vl f k * 2 ^ 32 + gl_uv (f k)
theorem gl_vl_congr {f g : Nat → Int32} : ∀ {n : Nat}, (∀ t, t < n → f t = g t) → gl_vl f n = gl_vl g n
  | 0, _ => rfl
  | n + 1, h => by rw [gl_vl, gl_vl, gl_vl_congr (fun t ht => h t (by omega)), h n (by omega)]
theorem gl_vl_lt {f g : Nat → Int32} {a : Nat} (h : gl_vl f a < gl_vl g a) : ∀ k, gl_vl f (a + k) < gl_vl g (a + k)
  | 0 => h
  | k + 1 => by
    have := gl_vl_lt h k
    have h1 := gl_uv_lt (f (a + k))
    rw [← Nat.add_assoc, gl_vl, gl_vl]
    omega
theorem gl_vl_inj {f g : Nat → Int32} : ∀ {n : Nat}, gl_vl f n = gl_vl g n → ∀ t, t < n → f t = g t
  | 0, _, t, ht => absurd ht (by omega)
  | n + 1, h, t, ht => by
    rw [gl_vl, gl_vl] at h
    have h1 := gl_uv_lt (f n)
    have h2 := gl_uv_lt (g n)
    by_cases hq : t = n
    · subst hq; exact gl_uv_inj (by omega)
    · exact gl_vl_inj (n := n) (by omega) t (by omega)
/-- compared word by word -/
def gl_cp (f g : Nat → Int32) : Nat → Nat → Int32
  | 0, _ => nI 0
  | n + 1, j => if f j = g j then gl_cp f g n (j + 1) else gl_cu (f j) (g j)
theorem gl_cp_spec {f g : Nat → Int32} : ∀ (n j : Nat), (∀ t, t < j → f t = g t) → (gl_cp f g n j < 0 ↔ gl_vl f (j + n) < gl_vl g (j + n)) ∧ (gl_cp f g n j = 0 ↔ ∀ t, t < j + n → f t = g t)
  | 0, j, h => by
    refine ⟨⟨fun q => absurd q (show ¬ nI 0 < 0 by decide), fun q => absurd q (by rw [Nat.add_zero, gl_vl_congr h]; omega)⟩, fun _ => h, fun _ => rfl⟩
  | n + 1, j, h => by
    unfold gl_cp
    by_cases hq : f j = g j
    · rw [if_pos hq]
      have := gl_cp_spec (f := f) (g := g) n (j + 1) (fun t ht => by
        by_cases e : t = j
        · rw [e]; exact hq
        · exact h t (by omega))
      rw [show j + (n + 1) = j + 1 + n by omega]
      exact this
    · rw [if_neg hq]
      have e0 : gl_vl f j = gl_vl g j := gl_vl_congr h
      have hne : gl_uv (f j) ≠ gl_uv (g j) := fun e => hq (gl_uv_inj e)
      refine ⟨?_, ?_⟩
      · unfold gl_cu
        rcases Nat.lt_or_ge (gl_uv (f j)) (gl_uv (g j)) with hl | hl
        · rw [if_pos hl]
          refine ⟨fun _ => ?_, fun _ => by decide⟩
          rw [show j + (n + 1) = j + 1 + n by omega]
          exact gl_vl_lt (by rw [gl_vl, gl_vl]; omega) n
        · rw [if_neg (by omega), if_neg hq]
          refine ⟨fun q => absurd q (by decide), fun q => ?_⟩
          have := gl_vl_lt (f := g) (g := f) (a := j + 1) (by rw [gl_vl, gl_vl]; omega) n
          rw [show j + (n + 1) = j + 1 + n by omega] at q
          omega
      · unfold gl_cu
        refine ⟨fun q => ?_, fun q => absurd (q j (by omega)) hq⟩
        rcases Nat.lt_or_ge (gl_uv (f j)) (gl_uv (g j)) with hl | hl
        · rw [if_pos hl] at q; exact absurd q (by decide)
        · rw [if_neg (by omega), if_neg hq] at q; exact absurd q (by decide)
/-- bit d of the whole number -/
theorem gl_uv_bt (x : Int32) (i : Nat) : bt x i = decide (gl_uv x / 2 ^ i % 2 = 1) := by
  unfold bt gl_uv
  rw [BitVec.getLsbD, Nat.testBit_eq_decide_div_mod_eq]
theorem gl_vl_div (f : Nat → Int32) : ∀ (n k : Nat), gl_vl f (n + k) / 2 ^ (32 * k) = gl_vl f n
  | n, 0 => by simp
  | n, k + 1 => by
    have h := gl_uv_lt (f (n + k))
    rw [← Nat.add_assoc, gl_vl, show 32 * (k + 1) = 32 + 32 * k by omega, Nat.pow_add, ← Nat.div_div_eq_div_mul, Nat.mul_comm, Nat.mul_add_div (by decide), Nat.div_eq_of_lt h, Nat.add_zero]
    exact gl_vl_div f n k
theorem gl_bit_vl (f : Nat → Int32) {d : Nat} (hd : d < 256) : gl_bit f d = decide (gl_vl f 8 / 2 ^ (255 - d) % 2 = 1) := by
  rw [gl_bit_bt, gl_uv_bt]
  have e1 : d / 32 + 1 + (7 - d / 32) = 8 := by omega
  have h1 := gl_vl_div f (d / 32 + 1) (7 - d / 32)
  rw [e1] at h1
  have e2 : 255 - d = 32 * (7 - d / 32) + (31 - d % 32) := by omega
  rw [e2, Nat.pow_add, ← Nat.div_div_eq_div_mul, h1, gl_vl]
  have e3 : (2 : Nat) ^ 32 = 2 ^ (31 - d % 32) * (2 * 2 ^ (d % 32)) := by
    rw [show (2 : Nat) * 2 ^ (d % 32) = 2 ^ (d % 32 + 1) by rw [Nat.pow_succ, Nat.mul_comm], ← Nat.pow_add]
    congr 1; omega
  rw [e3, Nat.mul_left_comm, Nat.mul_add_div (Nat.two_pow_pos _), Nat.mul_left_comm, Nat.mul_add_mod]
theorem gl_vl_bound (f : Nat → Int32) : ∀ n, gl_vl f n < 2 ^ (32 * n)
  | 0 => by simp [gl_vl]
  | n + 1 => by
    have h1 := gl_vl_bound f n
    have h2 := gl_uv_lt (f n)
    rw [gl_vl, show 32 * (n + 1) = 32 * n + 32 by omega, Nat.pow_add]
    have : (gl_vl f n + 1) * 2 ^ 32 ≤ 2 ^ (32 * n) * 2 ^ 32 := Nat.mul_le_mul_right _ h1
    omega
/-- of two in order that are alike ahead of bit d: a bit that is there stays -/
theorem gl_bit_mono {f g : Nat → Int32} {d : Nat} (hd : d < 256) (h : gl_vl f 8 ≤ gl_vl g 8) (hp : gl_vl f 8 / 2 ^ (256 - d) = gl_vl g 8 / 2 ^ (256 - d)) (hb : gl_bit f d = true) : gl_bit g d = true := by
  rw [gl_bit_vl f hd, decide_eq_true_iff] at hb
  rw [gl_bit_vl g hd, decide_eq_true_iff]
  have h1 : gl_vl f 8 / 2 ^ (255 - d) ≤ gl_vl g 8 / 2 ^ (255 - d) := Nat.div_le_div_right h
  rw [show 256 - d = (255 - d) + 1 by omega, Nat.pow_succ, ← Nat.div_div_eq_div_mul, ← Nat.div_div_eq_div_mul] at hp
  omega
theorem gl_bit_next {f g : Nat → Int32} {d : Nat} (hd : d < 256) (hp : gl_vl f 8 / 2 ^ (256 - d) = gl_vl g 8 / 2 ^ (256 - d)) (hb : gl_bit f d = gl_bit g d) : gl_vl f 8 / 2 ^ (256 - (d + 1)) = gl_vl g 8 / 2 ^ (256 - (d + 1)) := by
  rw [gl_bit_vl f hd, gl_bit_vl g hd, decide_eq_decide] at hb
  rw [show 256 - d = (255 - d) + 1 by omega, Nat.pow_succ, ← Nat.div_div_eq_div_mul, ← Nat.div_div_eq_div_mul] at hp
  rw [show 256 - (d + 1) = 255 - d by omega]
  omega
