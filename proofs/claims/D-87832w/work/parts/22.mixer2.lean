/-! MODULE Mixer, sums of an entry, of two sums, of a way, of a leaf (by gen22.py) -/
set_option maxRecDepth 100000
def gl_wl (l : List Int32) : Nat → Int32 := fun k => l.getD k 0
theorem gl_pts_app (a : Nat → Int32) (n : Nat) (w : Nat → Int32) (k : Nat) : ∀ m, gl_pts a n w (k + m) = gl_pts (gl_pts a n w k) (n + k) (fun t => w (k + t)) m
  | 0 => rfl
  | m + 1 => by
    rw [show k + (m + 1) = (k + m) + 1 from rfl, gl_pts, gl_pts, gl_pts_app a n w k m, Nat.add_assoc]
theorem gl_pts_congr {a : Nat → Int32} {n : Nat} {w w' : Nat → Int32} : ∀ {k : Nat}, (∀ t, t < k → w t = w' t) → gl_pts a n w k = gl_pts a n w' k
  | 0, _ => rfl
  | k + 1, h => by rw [gl_pts, gl_pts, gl_pts_congr (fun t ht => h t (by omega)), h k (by omega)]
theorem gl_fin_congr {w w' : Nat → Int32} {n : Nat} (h : ∀ t, t < n → w t = w' t) : gl_fin w n = gl_fin w' n := by
  unfold gl_fin
  rw [gl_pts_congr h]
/-- the ints of two joined sums -/
def gl_jw (x y : Nat → Int32) : Nat → Int32 := fun k => if k = 0 then nI 2 else if k < 9 then x (k - 1) else y (k - 9)
def gl_join (x y : Nat → Int32) : Nat → Int32 := gl_fin (gl_jw x y) 17
theorem gl_join_congr {x x' y y' : Nat → Int32} (hx : ∀ t, t < 8 → x t = x' t) (hy : ∀ t, t < 8 → y t = y' t) : gl_join x y = gl_join x' y' := by
  refine gl_fin_congr fun t ht => ?_
  unfold gl_jw
  by_cases h0 : t = 0
  · simp [h0]
  · by_cases h1 : t < 9
    · simp only [h0, h1, if_true, if_false]
      exact hx _ (by omega)
    · simp only [h0, h1, if_false]
      exact hy _ (by omega)
theorem gl_join_pts (x y : Nat → Int32) : gl_pts (gl_pts (gl_pt gl_i0 0 (nI 2)) 1 x 8) 9 y 8 = gl_pts gl_i0 0 (gl_jw x y) 17 := by
  rw [show (17 : Nat) = 9 + 8 from rfl, gl_pts_app, show gl_pts gl_i0 0 (gl_jw x y) 9 = gl_pts gl_i0 0 (gl_jw x y) (1 + 8) from rfl, gl_pts_app]
  have e1 : gl_pts (gl_pts gl_i0 0 (gl_jw x y) 1) (0 + 1) (fun t => gl_jw x y (1 + t)) 8 = gl_pts (gl_pt gl_i0 0 (nI 2)) 1 x 8 := by
    refine (gl_pts_congr (w' := x) fun t ht => ?_)
    show gl_jw x y (1 + t) = x t
    unfold gl_jw
    rw [if_neg (by omega), if_pos (by omega), show 1 + t - 1 = t by omega]
  rw [e1]
  refine (gl_pts_congr fun t ht => ?_)
  show y t = gl_jw x y (9 + t)
  unfold gl_jw
  rw [if_neg (by omega), if_neg (by omega), show 9 + t - 9 = t by omega]
def gl_entry (key : Int32) (v : Int64) : Nat → Int32 := gl_fin (gl_wl [nI 1, key, (v >>> ((nI 32).toInt64 &&& 63)).toInt32, v.toInt32]) 4
def gl_way (key : Int32) : Nat → Int32 := gl_fin (gl_wl [nI 4, key]) 2
def gl_leaf (key last : Int32) : Nat → Int32 := gl_fin (gl_wl [nI 5, key, last]) 3
set_option maxHeartbeats 4000000 in
set_option maxRecDepth 100000 in
theorem ct_X6_entry {l : Launch} {δ : gl_Del} {Λ : gl_Lay} {I : Nat → Nat → Int32} {L : Nat → Nat → Int64} {B : Nat → Nat → Bool} {R : Nat → Nat → Option Nat} {mx ma to nt at_ : Nat} {ky : Int32} {v : Int64} (h : Nat) (hh : 3 ≤ h) (hX : gl_MX Λ R mx ma) (ht : Λ.2 to = (0, nt)) (htm : to ≠ ma) (hat : at_ + 8 ≤ nt) (hnt : nt < 2 ^ 31) : gl_Ct l δ yX6_entry (ws_ yX6_entry cX6_entry 6 none) (gl_rm h 0 0) 0 0 [.ref mx, .int ky, .long v, .ref to, .int (nI at_)] (Λ, I, L, B, R) (gl_Qv fun S => S = (Λ, va_up (gl_m1 I mx ma (gl_entry ky v) 4) to (va_cpy (gl_entry ky v) (I to) 0 at_ 8), L, B, R)) := by
  refine gl_of (by decide) (Nat.le_of_ble_eq_true rfl) rfl ?_
  intro κ C hQ hlκ hδκ hnL hini
  change gl_Cx κ RX6 _ _ _ at C
  have htx : to ≠ mx := fun e => by rw [e, hX.1] at ht; cases ht
  refine j_aload_n C dX6_entry_0 rfl 1 rfl ?_
  refine j_cv C (cs_X6_27 C (ct_X6_begin (h - 1) (by omega) hX) hX.1 rfl (by omega) (by omega) (by omega) rfl (Nat.le_of_ble_eq_true rfl) dX6_entry_1) 4 rfl ?_
  rintro _ rfl
  refine j_aload_n C dX6_entry_4 rfl 5 rfl ?_
  refine j_iconst (v := nI 1) C dX6_entry_5 (by decide) 6 rfl ?_
  refine j_cv C (cs_X6_23 C (ct_X6_put (n := 0) (h - 1) (by omega) hX gl_m1_n (by omega)) hX.1 rfl (by omega) (by omega) (by omega) rfl (Nat.le_of_ble_eq_true rfl) dX6_entry_6) 9 rfl ?_
  rintro _ rfl
  rw [gl_m1_ma hX.2.2.2, gl_m1_m1 hX.2.2.2]
  refine j_aload_n C dX6_entry_9 rfl 10 rfl ?_
  refine j_iload_n C dX6_entry_10 rfl 11 rfl ?_
  refine j_cv C (cs_X6_23 C (ct_X6_put (n := 1) (h - 1) (by omega) hX gl_m1_n (by omega)) hX.1 rfl (by omega) (by omega) (by omega) rfl (Nat.le_of_ble_eq_true rfl) dX6_entry_11) 14 rfl ?_
  rintro _ rfl
  rw [gl_m1_ma hX.2.2.2, gl_m1_m1 hX.2.2.2]
  refine j_aload_n C dX6_entry_14 rfl 15 rfl ?_
  refine j_lload_n C dX6_entry_15 rfl 16 rfl ?_
  refine j_bipush (v := nI 32) C dX6_entry_16 (by decide) 18 rfl ?_
  refine j_lshr C dX6_entry_18 19 rfl ?_
  refine j_l2i C dX6_entry_19 20 rfl ?_
  refine j_cv C (cs_X6_23 C (ct_X6_put (n := 2) (h - 1) (by omega) hX gl_m1_n (by omega)) hX.1 rfl (by omega) (by omega) (by omega) rfl (Nat.le_of_ble_eq_true rfl) dX6_entry_20) 23 rfl ?_
  rintro _ rfl
  rw [gl_m1_ma hX.2.2.2, gl_m1_m1 hX.2.2.2]
  refine j_aload_n C dX6_entry_23 rfl 24 rfl ?_
  refine j_lload_n C dX6_entry_24 rfl 25 rfl ?_
  refine j_l2i C dX6_entry_25 26 rfl ?_
  refine j_cv C (cs_X6_23 C (ct_X6_put (n := 3) (h - 1) (by omega) hX gl_m1_n (by omega)) hX.1 rfl (by omega) (by omega) (by omega) rfl (Nat.le_of_ble_eq_true rfl) dX6_entry_26) 29 rfl ?_
  rintro _ rfl
  rw [gl_m1_ma hX.2.2.2, gl_m1_m1 hX.2.2.2]
  refine j_aload_n C dX6_entry_29 rfl 30 rfl ?_
  refine j_aload C dX6_entry_30 rfl 32 rfl ?_
  refine j_iload C dX6_entry_32 rfl 34 rfl ?_
  refine j_cv C (cs_X6_30 C (ct_X6_end (n := 4) (h - 1) (by omega) hX gl_m1_n (by omega) ht htm hat hnt) hX.1 rfl (by omega) (by omega) (by omega) rfl (Nat.le_of_ble_eq_true rfl) dX6_entry_34) 37 rfl ?_
  rintro _ rfl
  rw [gl_m1_ma hX.2.2.2, gl_m1_m1 hX.2.2.2, gl_m1_o htx htm]
  exact j_ret C hQ rfl (by omega) (by omega) dX6_entry_37
set_option maxHeartbeats 4000000 in
set_option maxRecDepth 100000 in
theorem ct_X6_way {l : Launch} {δ : gl_Del} {Λ : gl_Lay} {I : Nat → Nat → Int32} {L : Nat → Nat → Int64} {B : Nat → Nat → Bool} {R : Nat → Nat → Option Nat} {mx ma to nt at_ : Nat} {ky : Int32} (h : Nat) (hh : 3 ≤ h) (hX : gl_MX Λ R mx ma) (ht : Λ.2 to = (0, nt)) (htm : to ≠ ma) (hat : at_ + 8 ≤ nt) (hnt : nt < 2 ^ 31) : gl_Ct l δ yX6_way (ws_ yX6_way cX6_way 4 none) (gl_rm h 0 0) 0 0 [.ref mx, .int ky, .ref to, .int (nI at_)] (Λ, I, L, B, R) (gl_Qv fun S => S = (Λ, va_up (gl_m1 I mx ma (gl_way ky) 2) to (va_cpy (gl_way ky) (I to) 0 at_ 8), L, B, R)) := by
  refine gl_of (by decide) (Nat.le_of_ble_eq_true rfl) rfl ?_
  intro κ C hQ hlκ hδκ hnL hini
  change gl_Cx κ RX6 _ _ _ at C
  have htx : to ≠ mx := fun e => by rw [e, hX.1] at ht; cases ht
  refine j_aload_n C dX6_way_0 rfl 1 rfl ?_
  refine j_cv C (cs_X6_27 C (ct_X6_begin (h - 1) (by omega) hX) hX.1 rfl (by omega) (by omega) (by omega) rfl (Nat.le_of_ble_eq_true rfl) dX6_way_1) 4 rfl ?_
  rintro _ rfl
  refine j_aload_n C dX6_way_4 rfl 5 rfl ?_
  refine j_iconst (v := nI 4) C dX6_way_5 (by decide) 6 rfl ?_
  refine j_cv C (cs_X6_23 C (ct_X6_put (n := 0) (h - 1) (by omega) hX gl_m1_n (by omega)) hX.1 rfl (by omega) (by omega) (by omega) rfl (Nat.le_of_ble_eq_true rfl) dX6_way_6) 9 rfl ?_
  rintro _ rfl
  rw [gl_m1_ma hX.2.2.2, gl_m1_m1 hX.2.2.2]
  refine j_aload_n C dX6_way_9 rfl 10 rfl ?_
  refine j_iload_n C dX6_way_10 rfl 11 rfl ?_
  refine j_cv C (cs_X6_23 C (ct_X6_put (n := 1) (h - 1) (by omega) hX gl_m1_n (by omega)) hX.1 rfl (by omega) (by omega) (by omega) rfl (Nat.le_of_ble_eq_true rfl) dX6_way_11) 14 rfl ?_
  rintro _ rfl
  rw [gl_m1_ma hX.2.2.2, gl_m1_m1 hX.2.2.2]
  refine j_aload_n C dX6_way_14 rfl 15 rfl ?_
  refine j_aload_n C dX6_way_15 rfl 16 rfl ?_
  refine j_iload_n C dX6_way_16 rfl 17 rfl ?_
  refine j_cv C (cs_X6_30 C (ct_X6_end (n := 2) (h - 1) (by omega) hX gl_m1_n (by omega) ht htm hat hnt) hX.1 rfl (by omega) (by omega) (by omega) rfl (Nat.le_of_ble_eq_true rfl) dX6_way_17) 20 rfl ?_
  rintro _ rfl
  rw [gl_m1_ma hX.2.2.2, gl_m1_m1 hX.2.2.2, gl_m1_o htx htm]
  exact j_ret C hQ rfl (by omega) (by omega) dX6_way_20
set_option maxHeartbeats 4000000 in
set_option maxRecDepth 100000 in
theorem ct_X6_leaf {l : Launch} {δ : gl_Del} {Λ : gl_Lay} {I : Nat → Nat → Int32} {L : Nat → Nat → Int64} {B : Nat → Nat → Bool} {R : Nat → Nat → Option Nat} {mx ma to nt at_ : Nat} {ky la : Int32} (h : Nat) (hh : 3 ≤ h) (hX : gl_MX Λ R mx ma) (ht : Λ.2 to = (0, nt)) (htm : to ≠ ma) (hat : at_ + 8 ≤ nt) (hnt : nt < 2 ^ 31) : gl_Ct l δ yX6_leaf (ws_ yX6_leaf cX6_leaf 5 none) (gl_rm h 0 0) 0 0 [.ref mx, .int ky, .int la, .ref to, .int (nI at_)] (Λ, I, L, B, R) (gl_Qv fun S => S = (Λ, va_up (gl_m1 I mx ma (gl_leaf ky la) 3) to (va_cpy (gl_leaf ky la) (I to) 0 at_ 8), L, B, R)) := by
  refine gl_of (by decide) (Nat.le_of_ble_eq_true rfl) rfl ?_
  intro κ C hQ hlκ hδκ hnL hini
  change gl_Cx κ RX6 _ _ _ at C
  have htx : to ≠ mx := fun e => by rw [e, hX.1] at ht; cases ht
  refine j_aload_n C dX6_leaf_0 rfl 1 rfl ?_
  refine j_cv C (cs_X6_27 C (ct_X6_begin (h - 1) (by omega) hX) hX.1 rfl (by omega) (by omega) (by omega) rfl (Nat.le_of_ble_eq_true rfl) dX6_leaf_1) 4 rfl ?_
  rintro _ rfl
  refine j_aload_n C dX6_leaf_4 rfl 5 rfl ?_
  refine j_iconst (v := nI 5) C dX6_leaf_5 (by decide) 6 rfl ?_
  refine j_cv C (cs_X6_23 C (ct_X6_put (n := 0) (h - 1) (by omega) hX gl_m1_n (by omega)) hX.1 rfl (by omega) (by omega) (by omega) rfl (Nat.le_of_ble_eq_true rfl) dX6_leaf_6) 9 rfl ?_
  rintro _ rfl
  rw [gl_m1_ma hX.2.2.2, gl_m1_m1 hX.2.2.2]
  refine j_aload_n C dX6_leaf_9 rfl 10 rfl ?_
  refine j_iload_n C dX6_leaf_10 rfl 11 rfl ?_
  refine j_cv C (cs_X6_23 C (ct_X6_put (n := 1) (h - 1) (by omega) hX gl_m1_n (by omega)) hX.1 rfl (by omega) (by omega) (by omega) rfl (Nat.le_of_ble_eq_true rfl) dX6_leaf_11) 14 rfl ?_
  rintro _ rfl
  rw [gl_m1_ma hX.2.2.2, gl_m1_m1 hX.2.2.2]
  refine j_aload_n C dX6_leaf_14 rfl 15 rfl ?_
  refine j_iload_n C dX6_leaf_15 rfl 16 rfl ?_
  refine j_cv C (cs_X6_23 C (ct_X6_put (n := 2) (h - 1) (by omega) hX gl_m1_n (by omega)) hX.1 rfl (by omega) (by omega) (by omega) rfl (Nat.le_of_ble_eq_true rfl) dX6_leaf_16) 19 rfl ?_
  rintro _ rfl
  rw [gl_m1_ma hX.2.2.2, gl_m1_m1 hX.2.2.2]
  refine j_aload_n C dX6_leaf_19 rfl 20 rfl ?_
  refine j_aload_n C dX6_leaf_20 rfl 21 rfl ?_
  refine j_iload C dX6_leaf_21 rfl 23 rfl ?_
  refine j_cv C (cs_X6_30 C (ct_X6_end (n := 3) (h - 1) (by omega) hX gl_m1_n (by omega) ht htm hat hnt) hX.1 rfl (by omega) (by omega) (by omega) rfl (Nat.le_of_ble_eq_true rfl) dX6_leaf_23) 26 rfl ?_
  rintro _ rfl
  rw [gl_m1_ma hX.2.2.2, gl_m1_m1 hX.2.2.2, gl_m1_o htx htm]
  exact j_ret C hQ rfl (by omega) (by omega) dX6_leaf_26
set_option maxHeartbeats 4000000 in
set_option maxRecDepth 100000 in
theorem ct_X6_join {l : Launch} {δ : gl_Del} {Λ : gl_Lay} {I : Nat → Nat → Int32} {L : Nat → Nat → Int64} {B : Nat → Nat → Bool} {R : Nat → Nat → Option Nat} {mx ma to nt at_ x nx xf y ny yf : Nat} (h : Nat) (hh : 4 ≤ h) (hX : gl_MX Λ R mx ma) (hx : Λ.2 x = (0, nx)) (hxm : x ≠ ma) (hxf : xf + 8 ≤ nx) (hnx : nx < 2 ^ 31) (hy : Λ.2 y = (0, ny)) (hym : y ≠ ma) (hyf : yf + 8 ≤ ny) (hny : ny < 2 ^ 31) (ht : Λ.2 to = (0, nt)) (htm : to ≠ ma) (hat : at_ + 8 ≤ nt) (hnt : nt < 2 ^ 31) : gl_Ct l δ yX6_join (ws_ yX6_join cX6_join 7 none) (gl_rm h 0 0) 0 0 [.ref mx, .ref x, .int (nI xf), .ref y, .int (nI yf), .ref to, .int (nI at_)] (Λ, I, L, B, R) (gl_Qv fun S => S = (Λ, va_up (gl_m1 I mx ma (gl_join (fun t => I x (xf + t)) (fun t => I y (yf + t))) 17) to (va_cpy (gl_join (fun t => I x (xf + t)) (fun t => I y (yf + t))) (I to) 0 at_ 8), L, B, R)) := by
  refine gl_of (by decide) (Nat.le_of_ble_eq_true rfl) rfl ?_
  intro κ C hQ hlκ hδκ hnL hini
  change gl_Cx κ RX6 _ _ _ at C
  have htx : to ≠ mx := fun e => by rw [e, hX.1] at ht; cases ht
  have hxx : x ≠ mx := fun e => by rw [e, hX.1] at hx; cases hx
  have hyx : y ≠ mx := fun e => by rw [e, hX.1] at hy; cases hy
  refine j_aload_n C dX6_join_0 rfl 1 rfl ?_
  refine j_cv C (cs_X6_27 C (ct_X6_begin (h - 1) (by omega) hX) hX.1 rfl (by omega) (by omega) (by omega) rfl (Nat.le_of_ble_eq_true rfl) dX6_join_1) 4 rfl ?_
  rintro _ rfl
  refine j_aload_n C dX6_join_4 rfl 5 rfl ?_
  refine j_iconst (v := nI 2) C dX6_join_5 (by decide) 6 rfl ?_
  refine j_cv C (cs_X6_23 C (ct_X6_put (n := 0) (h - 1) (by omega) hX gl_m1_n (by omega)) hX.1 rfl (by omega) (by omega) (by omega) rfl (Nat.le_of_ble_eq_true rfl) dX6_join_6) 9 rfl ?_
  rintro _ rfl
  rw [gl_m1_ma hX.2.2.2, gl_m1_m1 hX.2.2.2]
  refine j_aload_n C dX6_join_9 rfl 10 rfl ?_
  refine j_aload_n C dX6_join_10 rfl 11 rfl ?_
  refine j_iload_n C dX6_join_11 rfl 12 rfl ?_
  refine j_cv C (cs_X6_34 C (ct_X6_put2 (n := 1) (h - 1) (by omega) hX gl_m1_n (by omega) hx hxm hxf hnx) hX.1 rfl (by omega) (by omega) (by omega) rfl (Nat.le_of_ble_eq_true rfl) dX6_join_12) 15 rfl ?_
  rintro _ rfl
  rw [gl_m1_ma hX.2.2.2, gl_m1_m1 hX.2.2.2, show (fun t => gl_m1 I mx ma _ 1 x (xf + t)) = (fun t => I x (xf + t)) by rw [gl_m1_o hxx hxm]]
  refine j_aload_n C dX6_join_15 rfl 16 rfl ?_
  refine j_aload_n C dX6_join_16 rfl 17 rfl ?_
  refine j_iload C dX6_join_17 rfl 19 rfl ?_
  refine j_cv C (cs_X6_34 C (ct_X6_put2 (n := 9) (h - 1) (by omega) hX gl_m1_n (by omega) hy hym hyf hny) hX.1 rfl (by omega) (by omega) (by omega) rfl (Nat.le_of_ble_eq_true rfl) dX6_join_19) 22 rfl ?_
  rintro _ rfl
  rw [gl_m1_ma hX.2.2.2, gl_m1_m1 hX.2.2.2, show (fun t => gl_m1 I mx ma _ 9 y (yf + t)) = (fun t => I y (yf + t)) by rw [gl_m1_o hyx hym]]
  refine j_aload_n C dX6_join_22 rfl 23 rfl ?_
  refine j_aload C dX6_join_23 rfl 25 rfl ?_
  refine j_iload C dX6_join_25 rfl 27 rfl ?_
  refine j_cv C (cs_X6_30 C (ct_X6_end (n := 17) (h - 1) (by omega) hX gl_m1_n (by omega) ht htm hat hnt) hX.1 rfl (by omega) (by omega) (by omega) rfl (Nat.le_of_ble_eq_true rfl) dX6_join_27) 30 rfl ?_
  rintro _ rfl
  rw [gl_m1_ma hX.2.2.2, gl_m1_m1 hX.2.2.2, gl_m1_o htx htm]
  rw [gl_join_pts]
  exact j_ret C hQ rfl (by omega) (by omega) dX6_join_30
