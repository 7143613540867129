/-! bits (rows of kit/laws/BITS.to-paste), ways of keys part within 256 bits -/
set_option maxRecDepth 100000
def bt (x : Int32) (i : Nat) : Bool := x.toBitVec.getLsbD i
theorem b_ext {x y : Int32} (h : ∀ i, i < 32 → bt x i = bt y i) : x = y := Int32.toBitVec_inj.mp (BitVec.eq_of_getLsbD_eq (fun i hi => h i hi))
theorem b_or (x y : Int32) (i : Nat) : bt (x ||| y) i = (bt x i || bt y i) := by unfold bt; rw [Int32.toBitVec_or, BitVec.getLsbD_or]
theorem b_and (x y : Int32) (i : Nat) : bt (x &&& y) i = (bt x i && bt y i) := by unfold bt; rw [Int32.toBitVec_and, BitVec.getLsbD_and]
theorem b_xor (x y : Int32) (i : Nat) : bt (x ^^^ y) i = (bt x i ^^ bt y i) := by unfold bt; rw [Int32.toBitVec_xor, BitVec.getLsbD_xor]
theorem b_big {x : Int32} {i : Nat} (h : 32 ≤ i) : bt x i = false := BitVec.getLsbD_of_ge _ _ h
theorem b_0 (i : Nat) : bt 0 i = false := BitVec.getLsbD_zero
theorem s_l : ∀ n, n < 32 → ((nI n &&& 31).toBitVec.smod 32).toNat = n := by decide +kernel
theorem s_u : ∀ n, n < 32 → (((nI n).toUInt32 &&& Int32.toUInt32 31).toBitVec % 32).toNat = n := by decide +kernel
theorem b_shl (n : Nat) (hn : n < 32) (x : Int32) {i : Nat} (hi : i < 32) : bt (x <<< (nI n &&& 31)) i = (decide (n ≤ i) && bt x (i - n)) := by
  unfold bt
  rw [Int32.toBitVec_shiftLeft]
  show (x.toBitVec <<< ((nI n &&& 31).toBitVec.smod 32).toNat).getLsbD i = _
  rw [s_l n hn, BitVec.getLsbD_shiftLeft]
  rcases Nat.lt_or_ge i n with h | h
  · simp [h, Nat.not_le.mpr h]
  · simp [hi, h, Nat.not_lt.mpr h]
theorem b_ushr (n : Nat) (hn : n < 32) (x : Int32) (i : Nat) : bt ((x.toUInt32 >>> ((nI n).toUInt32 &&& Int32.toUInt32 31)).toInt32) i = bt x (n + i) := by
  show (x.toUInt32 >>> ((nI n).toUInt32 &&& Int32.toUInt32 31)).toBitVec.getLsbD i = x.toUInt32.toBitVec.getLsbD (n + i)
  rw [UInt32.toBitVec_shiftRight]
  show (x.toUInt32.toBitVec >>> (((nI n).toUInt32 &&& Int32.toUInt32 31).toBitVec % 32).toNat).getLsbD i = _
  rw [s_u n hn, BitVec.getLsbD_ushiftRight]
theorem b_1 (i : Nat) : bt (nI 1) i = decide (i = 0) := by
  rcases Nat.lt_or_ge i 32 with h | h
  · exact (by decide +kernel : ∀ i, i < 32 → bt (nI 1) i = decide (i = 0)) i h
  · rw [b_big h, decide_eq_false (by omega)]
theorem gl_rot_bt (v : Int32) {k : Nat} (hk : k < 32) : bt v k = bt (gl_rot v) ((k + 7) % 32) := by
  have hm : (k + 7) % 32 < 32 := Nat.mod_lt _ (by decide)
  unfold gl_rot
  rw [b_or, b_shl 7 (by decide) v hm, b_ushr 25 (by decide)]
  rcases Nat.lt_or_ge k 25 with h | h
  · have e : (k + 7) % 32 = k + 7 := Nat.mod_eq_of_lt (by omega)
    rw [e, decide_eq_true (by omega), b_big (x := v) (i := 25 + (k + 7)) (by omega), Bool.or_false, Bool.true_and]
    congr 1
  · have e : (k + 7) % 32 = k - 25 := by omega
    rw [e, decide_eq_false (by omega), Bool.false_and, Bool.false_or]
    congr 1; omega
theorem gl_rot_inj {v w : Int32} (h : gl_rot v = gl_rot w) : v = w := b_ext fun i hi => by rw [gl_rot_bt v hi, gl_rot_bt w hi, h]
theorem gl_xor_inj {a b c : Int32} (h : a ^^^ c = b ^^^ c) : a = b := b_ext fun i _ => by
  have h1 : bt (a ^^^ c) i = bt (b ^^^ c) i := by rw [h]
  unfold bt at h1 ⊢
  rw [Int32.toBitVec_xor, Int32.toBitVec_xor, BitVec.getLsbD_xor, BitVec.getLsbD_xor] at h1
  revert h1
  cases a.toBitVec.getLsbD i <;> cases b.toBitVec.getLsbD i <;> cases c.toBitVec.getLsbD i <;> decide
theorem gl_xor_inj2 {a b c : Int32} (h : c ^^^ a = c ^^^ b) : a = b := b_ext fun i _ => by
  have h1 : bt (c ^^^ a) i = bt (c ^^^ b) i := by rw [h]
  unfold bt at h1 ⊢
  rw [Int32.toBitVec_xor, Int32.toBitVec_xor, BitVec.getLsbD_xor, BitVec.getLsbD_xor] at h1
  revert h1
  cases a.toBitVec.getLsbD i <;> cases b.toBitVec.getLsbD i <;> cases c.toBitVec.getLsbD i <;> decide
theorem gl_add_inj {a b c : Int32} (h : a + c = b + c) : a = b := by grind
theorem gl_ts_inj {a b : Nat → Int32} {j : Nat} (hj : j < 8) (h : ∀ t, t < 8 → gl_ts a j t = gl_ts b j t) : ∀ t, t < 8 → a t = b t := by
  have o : ∀ t, t < 8 → t ≠ j → a t = b t := fun t ht hn => by
    have := h t ht
    unfold gl_ts at this
    rw [gl_up_ne hn, gl_up_ne hn] at this
    exact this
  intro t ht
  by_cases hn : t = j
  · subst hn
    have := h t ht
    unfold gl_ts at this
    rw [gl_up_eq, gl_up_eq, o ((t + 3) % 8) (Nat.mod_lt _ (by decide)) (by omega), o ((t + 1) % 8) (Nat.mod_lt _ (by decide)) (by omega)] at this
    exact gl_add_inj (gl_rot_inj (gl_xor_inj this))
  · exact o t ht hn
theorem gl_ti_inj {a b : Nat → Int32} : ∀ {j : Nat}, j ≤ 8 → (∀ t, t < 8 → gl_ti j a t = gl_ti j b t) → ∀ t, t < 8 → a t = b t
  | 0, _, h => h
  | j + 1, hj, h => gl_ti_inj (Nat.le_of_succ_le hj) (gl_ts_inj (show j < 8 by omega) h)
theorem gl_to_inj {a b : Nat → Int32} : ∀ {r : Nat}, (∀ t, t < 8 → gl_to r a t = gl_to r b t) → ∀ t, t < 8 → a t = b t
  | 0, h => h
  | r + 1, h => gl_to_inj (r := r) (gl_ti_inj (Nat.le_refl 8) h)
theorem gl_turn_inj {a b : Nat → Int32} (h : ∀ t, t < 8 → gl_turn a t = gl_turn b t) : ∀ t, t < 8 → a t = b t := gl_to_inj h
theorem gl_way_eq (k : Int32) : gl_way k = gl_turn (va_up (gl_turn (va_up (va_up gl_i0 0 (gl_i0 0 ^^^ nI 4)) 1 (gl_i0 1 ^^^ k))) 0 (gl_turn (va_up (va_up gl_i0 0 (gl_i0 0 ^^^ nI 4)) 1 (gl_i0 1 ^^^ k)) 0 ^^^ nI 2)) := by
  have e : gl_pts gl_i0 0 (gl_wl [nI 4, k]) 2 = va_up (va_up gl_i0 0 (gl_i0 0 ^^^ nI 4)) 1 (gl_i0 1 ^^^ k) := by
    rw [gl_pts, gl_pts, gl_pts, gl_pt, if_neg (by decide), gl_pt, if_neg (by decide)]
    rfl
  unfold gl_way gl_fin gl_e8
  rw [if_neg (by decide), e]
theorem gl_way_inj {k k' : Int32} (h : ∀ t, t < 8 → gl_way k t = gl_way k' t) : k = k' := by
  rw [gl_way_eq, gl_way_eq] at h
  have h1 := gl_turn_inj h
  have h2 : ∀ t, t < 8 → gl_turn (va_up (va_up gl_i0 0 (gl_i0 0 ^^^ nI 4)) 1 (gl_i0 1 ^^^ k)) t = gl_turn (va_up (va_up gl_i0 0 (gl_i0 0 ^^^ nI 4)) 1 (gl_i0 1 ^^^ k')) t := by
    intro t ht
    by_cases h0 : t = 0
    · subst h0
      have := h1 0 ht
      rw [gl_up_eq, gl_up_eq] at this
      exact gl_xor_inj this
    · have := h1 t ht
      rw [gl_up_ne h0, gl_up_ne h0] at this
      exact this
  have h3 := gl_turn_inj h2 1 (by decide)
  rw [gl_up_eq, gl_up_eq] at h3
  exact gl_xor_inj2 h3
theorem gl_bit_bt (f : Nat → Int32) (d : Nat) : gl_bit f d = bt (f (d / 32)) (31 - d % 32) := by
  unfold gl_bit
  have hs : 31 - d % 32 < 32 := by omega
  have key : ∀ x : Int32, (x &&& nI 1 = nI 1) ↔ bt x 0 = true := by
    intro x
    constructor
    · intro h
      have h1 : bt (x &&& nI 1) 0 = bt (nI 1) 0 := by rw [h]
      rw [b_and, b_1] at h1
      simpa using h1
    · intro h
      refine b_ext fun i _ => ?_
      rw [b_and, b_1]
      by_cases hi : i = 0
      · subst hi; rw [h]; rfl
      · rw [decide_eq_false hi, Bool.and_false]
  have e := b_ushr (31 - d % 32) hs (f (d / 32)) 0
  rw [Nat.add_zero] at e
  cases hb : bt (f (d / 32)) (31 - d % 32) with
  | true => exact decide_eq_true ((key _).mpr (by rw [e]; exact hb))
  | false => exact decide_eq_false (fun q => by have := (key _).mp q; rw [e, hb] at this; cases this)
theorem gl_bits_eq {f g : Nat → Int32} (h : ∀ d, d < 256 → gl_bit f d = gl_bit g d) : ∀ t, t < 8 → f t = g t := by
  intro t ht
  refine b_ext fun i hi => ?_
  have := h (32 * t + (31 - i)) (by omega)
  rw [gl_bit_bt, gl_bit_bt, show (32 * t + (31 - i)) / 32 = t by omega, show 31 - (32 * t + (31 - i)) % 32 = i by omega] at this
  exact this
theorem gl_bit_congr {f g : Nat → Int32} {d : Nat} (hd : d < 256) (h : ∀ t, t < 8 → f t = g t) : gl_bit f d = gl_bit g d := by
  unfold gl_bit
  rw [h (d / 32) (by omega)]
/-- items whose ways differ part within 256 bits -/
theorem gl_tok_of {α : Type} {wy : α → Nat → Int32} : ∀ (f d : Nat) (l : List α), d + f = 256 → (∀ x ∈ l, ∀ y ∈ l, ∀ c, c < d → gl_bit (wy x) c = gl_bit (wy y) c) → l.Pairwise (fun x y => ¬ ∀ t, t < 8 → wy x t = wy y t) → gl_tok (fun d x => gl_bit (wy x) d) f d l
  | 0, d, l, hd, ha, hp => by
    match l, ha, hp with
    | [], _, _ => exact Nat.zero_le _
    | [x], _, _ => exact Nat.le_refl _
    | x :: y :: l, ha, hp =>
      exfalso
      refine (List.pairwise_cons.mp hp).1 y List.mem_cons_self (gl_bits_eq fun c hc => ?_)
      exact ha x List.mem_cons_self y (List.mem_cons_of_mem _ List.mem_cons_self) c (by omega)
  | f + 1, d, l, hd, ha, hp => by
    refine Or.inr ⟨gl_tok_of f (d + 1) _ (by omega) (fun x hx y hy c hc => ?_) (hp.filter _), gl_tok_of f (d + 1) _ (by omega) (fun x hx y hy c hc => ?_) (hp.filter _)⟩
    · obtain ⟨x1, x2⟩ := List.mem_filter.mp hx
      obtain ⟨y1, y2⟩ := List.mem_filter.mp hy
      by_cases hcd : c = d
      · subst hcd
        simp only [Bool.not_eq_true'] at x2 y2
        rw [x2, y2]
      · exact ha x x1 y y1 c (by omega)
    · obtain ⟨x1, x2⟩ := List.mem_filter.mp hx
      obtain ⟨y1, y2⟩ := List.mem_filter.mp hy
      by_cases hcd : c = d
      · subst hcd
        exact Eq.trans x2 (Eq.symm y2)
      · exact ha x x1 y y1 c (by omega)
theorem gl_tok_keys {l : List (Int32 × Nat)} (h : l.Pairwise (fun x y => x.1 ≠ y.1)) : gl_tok (fun d q => gl_bit (gl_way (q : Int32 × Nat).1) d) 256 0 l :=
  gl_tok_of (wy := fun q : Int32 × Nat => gl_way q.1) 256 0 l rfl (fun _ _ _ _ c hc => absurd hc (Nat.not_lt_zero c)) (h.imp fun hn q => hn (gl_way_inj q))
theorem gl_tr_map {α β : Type} {lf : α → Nat → Int32} {bt : Nat → α → Bool} (g : β → α) : ∀ (f d : Nat) (l : List β), gl_tr lf bt f d (l.map g) = gl_tr (fun x => lf (g x)) (fun d x => bt d (g x)) f d l
  | f, d, [] => by rw [List.map_nil, gl_tr_0, gl_tr_0]
  | f, d, [x] => by rw [List.map_cons, List.map_nil, gl_tr_1, gl_tr_1]
  | 0, d, x :: y :: l => by rw [List.map_cons, List.map_cons, gl_tr, gl_tr]
  | f + 1, d, x :: y :: l => by
    rw [gl_tr_s (by simp), gl_tr_s (by simp), List.filter_map, List.filter_map, gl_tr_map g f, gl_tr_map g f]
    rfl
theorem gl_tok_map {α β : Type} {bt : Nat → α → Bool} (g : β → α) : ∀ (f d : Nat) (l : List β), gl_tok bt f d (l.map g) ↔ gl_tok (fun d x => bt d (g x)) f d l
  | 0, d, l => by simp [gl_tok]
  | f + 1, d, l => by
    rw [gl_tok, gl_tok, List.length_map, List.filter_map, List.filter_map, gl_tok_map g f, gl_tok_map g f]
    rfl
theorem gl_tr_congr {α : Type} {lf lf' : α → Nat → Int32} {bt bt' : Nat → α → Bool} : ∀ (f d : Nat) (l : List α), d + f ≤ 256 → (∀ x ∈ l, lf x = lf' x) → (∀ x ∈ l, ∀ d, d < 256 → bt d x = bt' d x) → gl_tr lf bt f d l = gl_tr lf' bt' f d l
  | f, d, [], _, _, _ => by rw [gl_tr_0, gl_tr_0]
  | f, d, [x], _, h1, _ => by rw [gl_tr_1, gl_tr_1, h1 x List.mem_cons_self]
  | 0, d, x :: y :: l, _, _, _ => by rw [gl_tr, gl_tr]
  | f + 1, d, x :: y :: l, hd, h1, h2 => by
    have e1 : (x :: y :: l).filter (fun z => !bt d z) = (x :: y :: l).filter (fun z => !bt' d z) := List.filter_congr fun z hz => by rw [h2 z hz d (by omega)]
    have e2 : (x :: y :: l).filter (fun z => bt d z) = (x :: y :: l).filter (fun z => bt' d z) := List.filter_congr fun z hz => h2 z hz d (by omega)
    rw [gl_tr_s (by simp), gl_tr_s (by simp), e1, e2, gl_tr_congr f (d + 1) _ (by omega) (fun z hz => h1 z (List.mem_filter.mp hz).1) (fun z hz => h2 z (List.mem_filter.mp hz).1), gl_tr_congr f (d + 1) _ (by omega) (fun z hz => h1 z (List.mem_filter.mp hz).1) (fun z hz => h2 z (List.mem_filter.mp hz).1)]
theorem gl_tok_congr {α : Type} {bt bt' : Nat → α → Bool} : ∀ (f d : Nat) (l : List α), d + f ≤ 256 → (∀ x ∈ l, ∀ d, d < 256 → bt d x = bt' d x) → gl_tok bt f d l → gl_tok bt' f d l
  | 0, d, l, _, _, h => h
  | f + 1, d, l, hd, h2, h => by
    have e1 : l.filter (fun z => !bt d z) = l.filter (fun z => !bt' d z) := List.filter_congr fun z hz => by rw [h2 z hz d (by omega)]
    have e2 : l.filter (fun z => bt d z) = l.filter (fun z => bt' d z) := List.filter_congr fun z hz => h2 z hz d (by omega)
    rcases h with h | h
    · exact Or.inl h
    · rw [e1, e2] at h
      exact Or.inr ⟨gl_tok_congr f (d + 1) _ (by omega) (fun z hz => h2 z (List.mem_filter.mp hz).1) h.1, gl_tok_congr f (d + 1) _ (by omega) (fun z hz => h2 z (List.mem_filter.mp hz).1) h.2⟩
