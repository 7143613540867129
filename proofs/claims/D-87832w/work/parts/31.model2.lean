/-! MODULE Model, blocks: join, mark, blockAt, blockSum (by gen31.py) -/
set_option maxRecDepth 100000
/-- the words of a join, j of them there -/
def gl_jr (a b : Nat → Int32) (j : Nat) (o : Nat → Int32) : Nat → Int32 := fun k => if k = 0 then nI 2 else if k < 9 then (if k < 1 + j then a (k - 1) else o k) else (if k < 9 + j then b (k - 9) else o k)
theorem gl_jr_s {a b o : Nat → Int32} {j : Nat} (hj : j < 8) : va_up (va_up (gl_jr a b j o) (1 + j) (a j)) (9 + j) (b j) = gl_jr a b (j + 1) o := by
  funext k
  by_cases h1 : k = 9 + j
  · subst h1
    rw [gl_up_eq, gl_jr, if_neg (by omega), if_neg (by omega), if_pos (by omega), show 9 + j - 9 = j by omega]
  · rw [gl_up_ne h1]
    by_cases h2 : k = 1 + j
    · subst h2
      rw [gl_up_eq, gl_jr, if_neg (by omega), if_pos (by omega), if_pos (by omega), show 1 + j - 1 = j by omega]
    · rw [gl_up_ne h2]
      unfold gl_jr
      by_cases h0 : k = 0
      · rw [if_pos h0, if_pos h0]
      · rw [if_neg h0, if_neg h0]
        by_cases h9 : k < 9
        · rw [if_pos h9, if_pos h9]
          by_cases hq : k < 1 + j
          · rw [if_pos hq, if_pos (by omega)]
          · rw [if_neg hq, if_neg (by omega)]
        · rw [if_neg h9, if_neg h9]
          by_cases hq : k < 9 + j
          · rw [if_pos hq, if_pos (by omega)]
          · rw [if_neg hq, if_neg (by omega)]
theorem gl_jr_0 {a b o : Nat → Int32} : va_up o 0 (nI 2) = gl_jr a b 0 o := by
  funext k
  unfold va_up gl_jr
  by_cases h0 : k = 0
  · rw [if_pos h0, if_pos h0]
  · rw [if_neg h0, if_neg h0]
    by_cases h9 : k < 9
    · rw [if_pos h9, if_neg (by omega)]
    · rw [if_neg h9, if_neg (by omega)]
theorem gl_jr_8 {a b o : Nat → Int32} : gl_fin (gl_jr a b 8 o) 17 = gl_join a b := by
  refine gl_fin_congr fun t ht => ?_
  unfold gl_jr gl_jw
  by_cases h0 : t = 0
  · rw [if_pos h0, if_pos h0]
  · rw [if_neg h0, if_neg h0]
    by_cases h9 : t < 9
    · rw [if_pos h9, if_pos h9, if_pos (by omega)]
    · rw [if_neg h9, if_neg h9, if_pos (by omega)]
set_option maxHeartbeats 4000000 in
set_option maxRecDepth 100000 in
theorem ct_X9_join {l : Launch} {δ : gl_Del} {I : Nat → Nat → Int32} {L : Nat → Nat → Int64} {B : Nat → Nat → Bool} {x nx xf y ny yf to nt at_ : Nat} (h : Nat) (hh : 3 ≤ h) (hx : gl_msh x = (0, nx)) (hx9 : x ≠ 39) (hxm : x ≠ 40) (hxf : xf + 8 ≤ nx) (hnx : nx < 2 ^ 31) (hy : gl_msh y = (0, ny)) (hy9 : y ≠ 39) (hym : y ≠ 40) (hyf : yf + 8 ≤ ny) (hny : ny < 2 ^ 31) (ht : gl_msh to = (0, nt)) (ht9 : to ≠ 39) (htm : to ≠ 40) (hat : at_ + 8 ≤ nt) (hnt : nt < 2 ^ 31) : gl_Ct l δ yX9_join (ws_ yX9_join cX9_join 8 none) (gl_rm h 0 0) 0 0 [.ref 0, .ref x, .int (nI xf), .ref y, .int (nI yf), .ref to, .int (nI at_)] (gl_mL, I, L, B, gl_mR) (gl_Qv fun S => ∃ w m, S = (gl_mL, va_up (gl_wm I w m) to (va_cpy (gl_join (fun t => I x (xf + t)) (fun t => I y (yf + t))) (I to) 0 at_ 8), L, B, gl_mR)) := by
  refine gl_of (by decide) (Nat.le_of_ble_eq_true rfl) rfl ?_
  intro κ C hQ hlκ hδκ hnL hini
  change gl_Cx κ RX9 _ _ _ at C
  have loop : ∀ k j : Nat, j + k = 8 → gl_J κ 0 0 (gl_mL, va_up I 39 (gl_jr (fun t => I x (xf + t)) (fun t => I y (yf + t)) j (I 39)), L, B, gl_mR) 10 [some (.ref 0), some (.ref x), some (.int (nI xf)), some (.ref y), some (.int (nI yf)), some (.ref to), some (.int (nI at_)), some (.int (nI j))] [] := by
    intro k
    induction k with
    | zero =>
      intro j hj
      have hjN : j = 8 := by omega
      subst hjN
      refine j_iload C dX9_join_10 rfl 12 rfl ?_
      refine j_bipush (v := nI 8) C dX9_join_12 (by decide) 14 rfl ?_
      refine n_icmp_ge C 55 17 dX9_join_14 (by decide) rfl (by omega) (by omega) (fun c_14 => ?_) (fun c_14 => ?_)
      · refine j_aload_n C dX9_join_55 rfl 56 rfl ?_
        refine j_bipush (v := nI 17) C dX9_join_56 (by decide) 58 rfl ?_
        refine j_cv C (cs_X9_188 C (ct_X9_mix (n := 17) (h - 1) (by omega) (by omega) (by omega)) rfl rfl (by omega) (by omega) (by omega) rfl (Nat.le_of_ble_eq_true rfl) dX9_join_58) 61 rfl ?_
        rintro _ rfl
        rw [gl_up_eq, gl_jr_8]
        refine j_aload_n C dX9_join_61 rfl 62 rfl ?_
        refine j_aload C dX9_join_62 rfl 64 rfl ?_
        refine j_iload C dX9_join_64 rfl 66 rfl ?_
        refine j_cv C (cs_X9_192 C (ct_X9_toRow (h - 1) (by omega) ht htm hat hnt) rfl rfl (by omega) (by omega) (by omega) rfl (Nat.le_of_ble_eq_true rfl) dX9_join_66) 69 rfl ?_
        rintro _ rfl
        rw [show va_up (va_up I 39 _) 40 _ = gl_wm I _ _ from rfl, gl_wm_40, gl_wm_o ht9 htm]
        exact j_ret C hQ ⟨_, _, rfl⟩ (by omega) (by omega) dX9_join_69
      · exact absurd c_14 (by omega)
    | succ k ih =>
      intro j hj
      refine j_iload C dX9_join_10 rfl 12 rfl ?_
      refine j_bipush (v := nI 8) C dX9_join_12 (by decide) 14 rfl ?_
      refine n_icmp_ge C 55 17 dX9_join_14 (by decide) rfl (by omega) (by omega) (fun c_14 => ?_) (fun c_14 => ?_)
      · exact absurd c_14 (by omega)
      · refine j_aload_n C dX9_join_17 rfl 18 rfl ?_
        refine gf_X9_127 C rfl rfl dX9_join_18 21 rfl ?_
        refine j_iconst (v := nI 1) C dX9_join_21 (by decide) 22 rfl ?_
        refine j_iload C dX9_join_22 rfl 24 rfl ?_
        refine n_iadd C dX9_join_24 25 rfl ?_
        refine j_aload_n C dX9_join_25 rfl 26 rfl ?_
        refine j_iload_n C dX9_join_26 rfl 27 rfl ?_
        refine j_iload C dX9_join_27 rfl 29 rfl ?_
        refine n_iadd C dX9_join_29 30 rfl ?_
        refine j_iald C hx (by omega) hnx dX9_join_30 31 rfl ?_
        rw [gl_up_ne hx9]
        refine j_iast C rfl (by omega) (by decide) dX9_join_31 32 rfl ?_
        rw [gl_u2_up]
        refine j_aload_n C dX9_join_32 rfl 33 rfl ?_
        refine gf_X9_127 C rfl rfl dX9_join_33 36 rfl ?_
        refine j_bipush (v := nI 9) C dX9_join_36 (by decide) 38 rfl ?_
        refine j_iload C dX9_join_38 rfl 40 rfl ?_
        refine n_iadd C dX9_join_40 41 rfl ?_
        refine j_aload_n C dX9_join_41 rfl 42 rfl ?_
        refine j_iload C dX9_join_42 rfl 44 rfl ?_
        refine j_iload C dX9_join_44 rfl 46 rfl ?_
        refine n_iadd C dX9_join_46 47 rfl ?_
        refine j_iald C hy (by omega) hny dX9_join_47 48 rfl ?_
        rw [gl_up_ne hy9]
        refine j_iast C rfl (by omega) (by decide) dX9_join_48 49 rfl ?_
        rw [gl_u2_up]
        refine n_iinc C dX9_join_49 rfl (by rw [hnL]; decide) rfl 52 rfl ?_
        refine j_goto (tgt := 10) C dX9_join_52 (by decide) ?_
        rw [gl_jr_s (a := (fun t => I x (xf + t))) (b := (fun t => I y (yf + t))) (by omega)]
        exact ih (j + 1) (by omega)
  refine j_aload_n C dX9_join_0 rfl 1 rfl ?_
  refine gf_X9_127 C rfl rfl dX9_join_1 4 rfl ?_
  refine j_iconst (v := nI 0) C dX9_join_4 (by decide) 5 rfl ?_
  refine j_iconst (v := nI 2) C dX9_join_5 (by decide) 6 rfl ?_
  refine j_iast C rfl (by omega) (by decide) dX9_join_6 7 rfl ?_
  rw [gl_u2, gl_jr_0 (a := (fun t => I x (xf + t))) (b := (fun t => I y (yf + t)))]
  refine j_iconst (v := nI 0) C dX9_join_7 (by decide) 8 rfl ?_
  refine j_istore C dX9_join_8 (Nat.le_of_ble_eq_true rfl) (by rw [hnL]; decide) rfl 10 rfl ?_
  exact loop 8 0 rfl
/-- the words of a mark -/
def gl_kw (kp n : Int32) (t u : Nat → Int32) : Nat → Int32 := fun k => if k < 4 then gl_wl [nI 6, kp, 1000003 * kp + nI 77, n] k else if k < 12 then t (k - 4) else u (k - 12)
def gl_mark (kp n : Int32) (t u : Nat → Int32) : Nat → Int32 := gl_fin (gl_kw kp n t u) 20
def gl_kr (kp n : Int32) (t u : Nat → Int32) (j : Nat) (o : Nat → Int32) : Nat → Int32 := fun k => if k < 4 then gl_wl [nI 6, kp, 1000003 * kp + nI 77, n] k else if k < 12 then (if k < 4 + j then t (k - 4) else o k) else (if k < 12 + j then u (k - 12) else o k)
theorem gl_kr_s {kp n : Int32} {a b o : Nat → Int32} {j : Nat} (hj : j < 8) : va_up (va_up (gl_kr kp n a b j o) (4 + j) (a j)) (12 + j) (b j) = gl_kr kp n a b (j + 1) o := by
  funext k
  by_cases h1 : k = 12 + j
  · subst h1
    rw [gl_up_eq, gl_kr, if_neg (by omega), if_neg (by omega), if_pos (by omega), show 12 + j - 12 = j by omega]
  · rw [gl_up_ne h1]
    by_cases h2 : k = 4 + j
    · subst h2
      rw [gl_up_eq, gl_kr, if_neg (by omega), if_pos (by omega), if_pos (by omega), show 4 + j - 4 = j by omega]
    · rw [gl_up_ne h2]
      unfold gl_kr
      by_cases h0 : k < 4
      · rw [if_pos h0, if_pos h0]
      · rw [if_neg h0, if_neg h0]
        by_cases h9 : k < 12
        · rw [if_pos h9, if_pos h9]
          by_cases hq : k < 4 + j
          · rw [if_pos hq, if_pos (by omega)]
          · rw [if_neg hq, if_neg (by omega)]
        · rw [if_neg h9, if_neg h9]
          by_cases hq : k < 12 + j
          · rw [if_pos hq, if_pos (by omega)]
          · rw [if_neg hq, if_neg (by omega)]
theorem gl_kr_0 {kp n : Int32} {a b o : Nat → Int32} : va_up (va_up (va_up (va_up o 0 (nI 6)) 1 kp) 2 (1000003 * kp + nI 77)) 3 n = gl_kr kp n a b 0 o := by
  funext k
  unfold gl_kr
  by_cases h0 : k < 4
  · rw [if_pos h0]
    rcases (show k = 0 ∨ k = 1 ∨ k = 2 ∨ k = 3 by omega) with rfl | rfl | rfl | rfl <;> rfl
  · rw [if_neg h0, gl_up_ne (by omega), gl_up_ne (by omega), gl_up_ne (by omega), gl_up_ne (by omega)]
    by_cases h9 : k < 12
    · rw [if_pos h9, if_neg (by omega)]
    · rw [if_neg h9, if_neg (by omega)]
theorem gl_kr_8 {kp n : Int32} {a b o : Nat → Int32} : gl_fin (gl_kr kp n a b 8 o) 20 = gl_mark kp n a b := by
  refine gl_fin_congr fun t ht => ?_
  unfold gl_kr gl_kw
  by_cases h0 : t < 4
  · rw [if_pos h0, if_pos h0]
  · rw [if_neg h0, if_neg h0]
    by_cases h9 : t < 12
    · rw [if_pos h9, if_pos h9, if_pos (by omega)]
    · rw [if_neg h9, if_neg h9, if_pos (by omega)]
set_option maxHeartbeats 4000000 in
set_option maxRecDepth 100000 in
theorem ct_X9_mark {l : Launch} {δ : gl_Del} {I : Nat → Nat → Int32} {L : Nat → Nat → Int64} {B : Nat → Nat → Bool} {kp n : Int32} {x nx p_ q_ : Nat} (h : Nat) (hh : 3 ≤ h) (hx : gl_msh x = (0, nx)) (hx9 : x ≠ 39) (hp : p_ + 8 ≤ nx) (hq : q_ + 8 ≤ nx) (hnx : nx < 2 ^ 31) : gl_Ct l δ yX9_mark (ws_ yX9_mark cX9_mark 7 none) (gl_rm h 0 0) 0 0 [.ref 0, .int kp, .int n, .ref x, .int (nI p_), .int (nI q_)] (gl_mL, I, L, B, gl_mR) (gl_Qv fun S => ∃ w, S = (gl_mL, gl_wm I w (gl_mark kp n (fun t => I x (p_ + t)) (fun t => I x (q_ + t))), L, B, gl_mR)) := by
  refine gl_of (by decide) (Nat.le_of_ble_eq_true rfl) rfl ?_
  intro κ C hQ hlκ hδκ hnL hini
  change gl_Cx κ RX9 _ _ _ at C
  have loop : ∀ k j : Nat, j + k = 8 → gl_J κ 0 0 (gl_mL, va_up I 39 (gl_kr kp n (fun t => I x (p_ + t)) (fun t => I x (q_ + t)) j (I 39)), L, B, gl_mR) 38 [some (.ref 0), some (.int kp), some (.int n), some (.ref x), some (.int (nI p_)), some (.int (nI q_)), some (.int (nI j))] [] := by
    intro k
    induction k with
    | zero =>
      intro j hj
      have hjN : j = 8 := by omega
      subst hjN
      refine j_iload C dX9_mark_38 rfl 40 rfl ?_
      refine j_bipush (v := nI 8) C dX9_mark_40 (by decide) 42 rfl ?_
      refine n_icmp_ge C 84 45 dX9_mark_42 (by decide) rfl (by omega) (by omega) (fun c_42 => ?_) (fun c_42 => ?_)
      · refine j_aload_n C dX9_mark_84 rfl 85 rfl ?_
        refine j_bipush (v := nI 20) C dX9_mark_85 (by decide) 87 rfl ?_
        refine j_cv C (cs_X9_188 C (ct_X9_mix (n := 20) (h - 1) (by omega) (by omega) (by omega)) rfl rfl (by omega) (by omega) (by omega) rfl (Nat.le_of_ble_eq_true rfl) dX9_mark_87) 90 rfl ?_
        rintro _ rfl
        rw [gl_up_eq, gl_kr_8]
        exact j_ret C hQ ⟨_, rfl⟩ (by omega) (by omega) dX9_mark_90
      · exact absurd c_42 (by omega)
    | succ k ih =>
      intro j hj
      refine j_iload C dX9_mark_38 rfl 40 rfl ?_
      refine j_bipush (v := nI 8) C dX9_mark_40 (by decide) 42 rfl ?_
      refine n_icmp_ge C 84 45 dX9_mark_42 (by decide) rfl (by omega) (by omega) (fun c_42 => ?_) (fun c_42 => ?_)
      · exact absurd c_42 (by omega)
      · refine j_aload_n C dX9_mark_45 rfl 46 rfl ?_
        refine gf_X9_127 C rfl rfl dX9_mark_46 49 rfl ?_
        refine j_iconst (v := nI 4) C dX9_mark_49 (by decide) 50 rfl ?_
        refine j_iload C dX9_mark_50 rfl 52 rfl ?_
        refine n_iadd C dX9_mark_52 53 rfl ?_
        refine j_aload_n C dX9_mark_53 rfl 54 rfl ?_
        refine j_iload C dX9_mark_54 rfl 56 rfl ?_
        refine j_iload C dX9_mark_56 rfl 58 rfl ?_
        refine n_iadd C dX9_mark_58 59 rfl ?_
        refine j_iald C hx (by omega) hnx dX9_mark_59 60 rfl ?_
        rw [gl_up_ne hx9]
        refine j_iast C rfl (by omega) (by decide) dX9_mark_60 61 rfl ?_
        rw [gl_u2_up]
        refine j_aload_n C dX9_mark_61 rfl 62 rfl ?_
        refine gf_X9_127 C rfl rfl dX9_mark_62 65 rfl ?_
        refine j_bipush (v := nI 12) C dX9_mark_65 (by decide) 67 rfl ?_
        refine j_iload C dX9_mark_67 rfl 69 rfl ?_
        refine n_iadd C dX9_mark_69 70 rfl ?_
        refine j_aload_n C dX9_mark_70 rfl 71 rfl ?_
        refine j_iload C dX9_mark_71 rfl 73 rfl ?_
        refine j_iload C dX9_mark_73 rfl 75 rfl ?_
        refine n_iadd C dX9_mark_75 76 rfl ?_
        refine j_iald C hx (by omega) hnx dX9_mark_76 77 rfl ?_
        rw [gl_up_ne hx9]
        refine j_iast C rfl (by omega) (by decide) dX9_mark_77 78 rfl ?_
        rw [gl_u2_up]
        refine n_iinc C dX9_mark_78 rfl (by rw [hnL]; decide) rfl 81 rfl ?_
        refine j_goto (tgt := 38) C dX9_mark_81 (by decide) ?_
        rw [gl_kr_s (a := (fun t => I x (p_ + t))) (b := (fun t => I x (q_ + t))) (by omega)]
        exact ih (j + 1) (by omega)
  refine j_aload_n C dX9_mark_0 rfl 1 rfl ?_
  refine gf_X9_127 C rfl rfl dX9_mark_1 4 rfl ?_
  refine j_iconst (v := nI 0) C dX9_mark_4 (by decide) 5 rfl ?_
  refine j_bipush (v := nI 6) C dX9_mark_5 (by decide) 7 rfl ?_
  refine j_iast C rfl (by omega) (by decide) dX9_mark_7 8 rfl ?_
  rw [gl_u2]
  refine j_aload_n C dX9_mark_8 rfl 9 rfl ?_
  refine gf_X9_127 C rfl rfl dX9_mark_9 12 rfl ?_
  refine j_iconst (v := nI 1) C dX9_mark_12 (by decide) 13 rfl ?_
  refine j_iload_n C dX9_mark_13 rfl 14 rfl ?_
  refine j_iast C rfl (by omega) (by decide) dX9_mark_14 15 rfl ?_
  rw [gl_u2_up]
  refine j_aload_n C dX9_mark_15 rfl 16 rfl ?_
  refine gf_X9_127 C rfl rfl dX9_mark_16 19 rfl ?_
  refine j_iconst (v := nI 2) C dX9_mark_19 (by decide) 20 rfl ?_
  refine j_ldc C q1530 dX9_mark_20 22 rfl ?_
  refine j_iload_n C dX9_mark_22 rfl 23 rfl ?_
  refine j_imul C dX9_mark_23 24 rfl ?_
  refine j_bipush (v := nI 77) C dX9_mark_24 (by decide) 26 rfl ?_
  refine j_iadd C dX9_mark_26 27 rfl ?_
  refine j_iast C rfl (by omega) (by decide) dX9_mark_27 28 rfl ?_
  rw [gl_u2_up]
  refine j_aload_n C dX9_mark_28 rfl 29 rfl ?_
  refine gf_X9_127 C rfl rfl dX9_mark_29 32 rfl ?_
  refine j_iconst (v := nI 3) C dX9_mark_32 (by decide) 33 rfl ?_
  refine j_iload_n C dX9_mark_33 rfl 34 rfl ?_
  refine j_iast C rfl (by omega) (by decide) dX9_mark_34 35 rfl ?_
  rw [gl_u2_up, gl_kr_0 (a := (fun t => I x (p_ + t))) (b := (fun t => I x (q_ + t)))]
  refine j_iconst (v := nI 0) C dX9_mark_35 (by decide) 36 rfl ?_
  refine j_istore C dX9_mark_36 (Nat.le_of_ble_eq_true rfl) (by rw [hnL]; decide) rfl 38 rfl ?_
  exact loop 8 0 rfl
/-- the level of the greatest block from a on, up to b -/
def gl_lvf (a b : Nat) : Nat → Nat → Nat
  | 0, r => r
  | f + 1, r => if a % 2 ^ (r + 1) = 0 ∧ a + 2 ^ (r + 1) ≤ b then gl_lvf a b f (r + 1) else r
def gl_lv (a b : Nat) : Nat := gl_lvf a b 9 0
theorem gl_lvf_yes {a b f r : Nat} (h1 : a % 2 ^ (r + 1) = 0) (h2 : a + 2 ^ (r + 1) ≤ b) : gl_lvf a b (f + 1) r = gl_lvf a b f (r + 1) := if_pos ⟨h1, h2⟩
theorem gl_lvf_no {a b f r : Nat} (h : ¬ (a % 2 ^ (r + 1) = 0 ∧ a + 2 ^ (r + 1) ≤ b)) : gl_lvf a b f r = r := by
  cases f with
  | zero => rfl
  | succ f => exact if_neg h
theorem gl_lvf_ok {a b : Nat} : ∀ (f r : Nat), a % 2 ^ r = 0 → a + 2 ^ r ≤ b → a % 2 ^ (gl_lvf a b f r) = 0 ∧ a + 2 ^ (gl_lvf a b f r) ≤ b
  | 0, r, h1, h2 => ⟨h1, h2⟩
  | f + 1, r, h1, h2 => by
    unfold gl_lvf
    by_cases h : a % 2 ^ (r + 1) = 0 ∧ a + 2 ^ (r + 1) ≤ b
    · rw [if_pos h]
      exact gl_lvf_ok f (r + 1) h.1 h.2
    · rw [if_neg h]
      exact ⟨h1, h2⟩
theorem gl_lv_ok {a b : Nat} (h : a < b) : a % 2 ^ (gl_lv a b) = 0 ∧ a + 2 ^ (gl_lv a b) ≤ b := gl_lvf_ok 9 0 (Nat.mod_one a) (by omega)
theorem gl_lvf_le {a b : Nat} : ∀ (f r : Nat), gl_lvf a b f r ≤ r + f
  | 0, r => Nat.le_refl _
  | f + 1, r => by
    unfold gl_lvf
    by_cases h : a % 2 ^ (r + 1) = 0 ∧ a + 2 ^ (r + 1) ≤ b
    · rw [if_pos h]
      have := gl_lvf_le (a := a) (b := b) f (r + 1)
      omega
    · rw [if_neg h]; omega
theorem gl_lv_le {a b : Nat} : gl_lv a b ≤ 9 := by
  have := gl_lvf_le (a := a) (b := b) 9 0
  unfold gl_lv
  omega
set_option maxHeartbeats 4000000 in
set_option maxRecDepth 100000 in
theorem ct_X9_blockAt {l : Launch} {δ : gl_Del} {S : gl_Sto} {a b : Nat} (h : Nat) (hh : 1 ≤ h) (ha : a ≤ 400) (hb : b ≤ 400) : gl_Ct l δ yX9_blockAt (ws_ yX9_blockAt cX9_blockAt 3 ((some FieldType.int))) (gl_rm h 0 0) 0 0 [.int (nI a), .int (nI b)] S (gl_Qi fun r S1 => r = nI (2 ^ gl_lv a b) ∧ S1 = S) := by
  refine gl_of (by decide) (Nat.le_of_ble_eq_true rfl) rfl ?_
  intro κ C hQ hlκ hδκ hnL hini
  change gl_Cx κ RX9 _ _ _ at C
  have loop : ∀ f r : Nat, 2 ^ r ≤ 1024 → b < 2 ^ (r + f + 1) → gl_lvf a b f r = gl_lv a b → gl_J κ 0 0 S 2 [some (.int (nI a)), some (.int (nI b)), some (.int (nI (2 ^ r)))] [] := by
    intro f
    induction f with
    | zero =>
      intro r hr hf hres
      have h0 : 0 < 2 ^ r := Nat.two_pow_pos r
      have e1 : 2 ^ (r + 1) = 2 ^ r * 2 := Nat.pow_succ 2 r
      have hf : b < 2 ^ r * 2 := by rw [← e1]; exact hf
      refine j_iload_n C dX9_blockAt_2 rfl 3 rfl ?_
      refine j_iconst (v := nI 2) C dX9_blockAt_3 (by decide) 4 rfl ?_
      refine j_iload_n C dX9_blockAt_4 rfl 5 rfl ?_
      refine n_imul C dX9_blockAt_5 6 rfl ?_
      refine n_irem C dX9_blockAt_6 (by omega) (by omega) (by omega) 7 rfl ?_
      refine n_if_ne C 26 10 dX9_blockAt_7 (by decide) rfl (Nat.lt_of_le_of_lt (Nat.mod_le _ _) (by omega)) (fun c_7 => ?_) (fun c_7 => ?_)
      · refine j_iload_n C dX9_blockAt_26 rfl 27 rfl ?_
        exact j_iret C hQ ⟨by rw [← hres]; rfl, rfl⟩ (by omega) (by omega) dX9_blockAt_27
      · refine j_iload_n C dX9_blockAt_10 rfl 11 rfl ?_
        refine j_iconst (v := nI 2) C dX9_blockAt_11 (by decide) 12 rfl ?_
        refine j_iload_n C dX9_blockAt_12 rfl 13 rfl ?_
        refine n_imul C dX9_blockAt_13 14 rfl ?_
        refine n_iadd C dX9_blockAt_14 15 rfl ?_
        refine j_iload_n C dX9_blockAt_15 rfl 16 rfl ?_
        refine n_icmp_gt C 26 19 dX9_blockAt_16 (by decide) rfl (by omega) (by omega) (fun c_16 => ?_) (fun c_16 => ?_)
        · refine j_iload_n C dX9_blockAt_26 rfl 27 rfl ?_
          exact j_iret C hQ ⟨by rw [← hres]; rfl, rfl⟩ (by omega) (by omega) dX9_blockAt_27
        · exact absurd c_16 (by omega)
    | succ f ih =>
      intro r hr hf hres
      have h0 : 0 < 2 ^ r := Nat.two_pow_pos r
      have e1 : 2 ^ (r + 1) = 2 ^ r * 2 := Nat.pow_succ 2 r
      refine j_iload_n C dX9_blockAt_2 rfl 3 rfl ?_
      refine j_iconst (v := nI 2) C dX9_blockAt_3 (by decide) 4 rfl ?_
      refine j_iload_n C dX9_blockAt_4 rfl 5 rfl ?_
      refine n_imul C dX9_blockAt_5 6 rfl ?_
      refine n_irem C dX9_blockAt_6 (by omega) (by omega) (by omega) 7 rfl ?_
      refine n_if_ne C 26 10 dX9_blockAt_7 (by decide) rfl (Nat.lt_of_le_of_lt (Nat.mod_le _ _) (by omega)) (fun c_7 => ?_) (fun c_7 => ?_)
      · refine j_iload_n C dX9_blockAt_26 rfl 27 rfl ?_
        exact j_iret C hQ ⟨by rw [← hres, gl_lvf_no (fun q => c_7 (by rw [← q.1, Nat.pow_succ, Nat.mul_comm]))], rfl⟩ (by omega) (by omega) dX9_blockAt_27
      · refine j_iload_n C dX9_blockAt_10 rfl 11 rfl ?_
        refine j_iconst (v := nI 2) C dX9_blockAt_11 (by decide) 12 rfl ?_
        refine j_iload_n C dX9_blockAt_12 rfl 13 rfl ?_
        refine n_imul C dX9_blockAt_13 14 rfl ?_
        refine n_iadd C dX9_blockAt_14 15 rfl ?_
        refine j_iload_n C dX9_blockAt_15 rfl 16 rfl ?_
        refine n_icmp_gt C 26 19 dX9_blockAt_16 (by decide) rfl (by omega) (by omega) (fun c_16 => ?_) (fun c_16 => ?_)
        · refine j_iload_n C dX9_blockAt_26 rfl 27 rfl ?_
          exact j_iret C hQ ⟨by rw [← hres, gl_lvf_no (fun q => by have := q.2; rw [e1] at this; omega)], rfl⟩ (by omega) (by omega) dX9_blockAt_27
        · refine j_iload_n C dX9_blockAt_19 rfl 20 rfl ?_
          refine j_iconst (v := nI 2) C dX9_blockAt_20 (by decide) 21 rfl ?_
          refine n_imul C dX9_blockAt_21 22 rfl ?_
          refine j_istore_n C dX9_blockAt_22 (Nat.le_of_ble_eq_true rfl) (by rw [hnL]; decide) rfl 23 rfl ?_
          refine j_goto (tgt := 2) C dX9_blockAt_23 (by decide) ?_
          rw [show 2 ^ r * 2 = 2 ^ (r + 1) by rw [Nat.pow_succ]]
          exact ih (r + 1) (by rw [e1]; omega) (by rw [show r + 1 + f = r + (f + 1) by omega]; exact hf) (by rw [← hres, gl_lvf_yes (by rw [Nat.pow_succ, Nat.mul_comm]; exact c_7) (by rw [Nat.pow_succ, Nat.mul_comm]; exact c_16)])
  refine j_iconst (v := nI 1) C dX9_blockAt_0 (by decide) 1 rfl ?_
  refine j_istore_n C dX9_blockAt_1 (Nat.le_of_ble_eq_true rfl) (by rw [hnL]; decide) rfl 2 rfl ?_
  exact loop 9 0 (by decide) (Nat.lt_of_le_of_lt hb (by decide)) rfl
