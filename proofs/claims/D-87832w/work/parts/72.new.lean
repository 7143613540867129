/-! MODULE GlassLog: constructors of its parts (by gen72.py) -/
set_option maxRecDepth 100000
/-- new cells d .. d + n - 1 (d the object itself): all else is as it was, they hold zeros -/
def gl_nwP (d n : Nat) (sh sh' : Nat → Nat × Nat) (I I' : Nat → Nat → Int32) (L L' : Nat → Nat → Int64) (B B' : Nat → Nat → Bool) (R R' : Nat → Nat → Option Nat) : Prop := (∀ c, c < d → sh' c = sh c ∧ I' c = I c ∧ L' c = L c ∧ B' c = B c ∧ R' c = R c) ∧ ∀ c, d ≤ c → c < d + n → I' c = (fun _ => 0) ∧ L' c = (fun _ => 0) ∧ B' c = (fun _ => false)
theorem gl_nwP.tr {d n : Nat} {sh sh' sh2 : Nat → Nat × Nat} {I I' I2 : Nat → Nat → Int32} {L L' L2 : Nat → Nat → Int64} {B B' B2 : Nat → Nat → Bool} {R R' R2 : Nat → Nat → Option Nat} (h1 : gl_nwP d n sh sh' I I' L L' B B' R R') {m : Nat} (h2 : ∀ c, c < d + n → (c < d → sh2 c = sh' c ∧ R2 c = R' c) ∧ I2 c = I' c ∧ L2 c = L' c ∧ B2 c = B' c) (h3 : ∀ c, d + n ≤ c → c < d + n + m → I2 c = (fun _ => 0) ∧ L2 c = (fun _ => 0) ∧ B2 c = (fun _ => false)) : gl_nwP d (n + m) sh sh2 I I2 L L2 B B2 R R2 := by
  refine ⟨fun c hc => ?_, fun c hc1 hc2 => ?_⟩
  · obtain ⟨a1, a2, a3, a4, a5⟩ := h1.1 c hc
    obtain ⟨b1, b2, b3, b4⟩ := h2 c (by omega)
    exact ⟨(b1 hc).1.trans a1, b2.trans a2, b3.trans a3, b4.trans a4, (b1 hc).2.trans a5⟩
  · rcases Nat.lt_or_ge c (d + n) with q | q
    · obtain ⟨a1, a2, a3⟩ := h1.2 c hc1 q
      obtain ⟨b1, b2, b3, b4⟩ := h2 c q
      exact ⟨b2.trans a1, b3.trans a2, b4.trans a3⟩
    · exact h3 c q (by omega)
set_option maxHeartbeats 4000000 in
set_option maxRecDepth 100000 in
theorem ct_X3_new {l : Launch} {δ : gl_Del} {sh : Nat → Nat × Nat} {I : Nat → Nat → Int32} {L : Nat → Nat → Int64} {B : Nat → Nat → Bool} {R : Nat → Nat → Option Nat} {d : Nat} (h : Nat) (hh : 1 ≤ h) (hk : sh d = (11, 0)) (hI : I d = fun _ => 0) (hLz : L d = fun _ => 0) (hB : B d = fun _ => false) : gl_Ct l δ yX3_init (ws_ yX3_init cX3_init 1 none) (gl_rm h 0 0) 0 0 [.ref d] ((d + 1, sh), I, L, B, R) (gl_Qv fun S => ∃ sh' I' L' B' R', S = ((d + 1, sh'), I', L', B', R') ∧ gl_nwP d 1 sh sh' I I' L L' B B' R R' ∧ sh' d = (11, 0) ∧ R' d = R d) := by
  refine gl_of (by decide) (Nat.le_of_ble_eq_true rfl) rfl ?_
  intro κ C hQ hlκ hδκ hnL hini
  change gl_Cx κ RX3 _ _ _ at C
  refine j_aload_n C dX3_init_0 rfl 1 rfl ?_
  refine j_objInit C q166 q91 q92 (by omega) (Nat.le_of_ble_eq_true rfl) dX3_init_1 4 rfl ?_
  exact j_ret C hQ ⟨_, _, _, _, _, rfl, ⟨fun c hc => ⟨rfl, rfl, rfl, rfl, rfl⟩, fun c h1 h2 => by
        obtain rfl : c = d := by omega
        exact ⟨hI, hLz, hB⟩⟩, ⟨hk, rfl⟩⟩ (by omega) (by omega) dX3_init_4
set_option maxHeartbeats 4000000 in
set_option maxRecDepth 100000 in
theorem ct_X4_new {l : Launch} {δ : gl_Del} {sh : Nat → Nat × Nat} {I : Nat → Nat → Int32} {L : Nat → Nat → Int64} {B : Nat → Nat → Bool} {R : Nat → Nat → Option Nat} {d : Nat} (h : Nat) (hh : 1 ≤ h) (hk : sh d = (12, 0)) (hI : I d = fun _ => 0) (hLz : L d = fun _ => 0) (hB : B d = fun _ => false) : gl_Ct l δ yX4_init (ws_ yX4_init cX4_init 1 none) (gl_rm h 3 24) 3 24 [.ref d] ((d + 1, sh), I, L, B, R) (gl_Qv fun S => ∃ sh' I' L' B' R', S = ((d + 4, sh'), I', L', B', R') ∧ gl_nwP d 4 sh sh' I I' L L' B B' R R' ∧ gl_DL (d + 4, sh') R' d) := by
  refine gl_of (by decide) (Nat.le_of_ble_eq_true rfl) rfl ?_
  intro κ C hQ hlκ hδκ hnL hini
  change gl_Cx κ RX4 _ _ _ at C
  refine j_aload_n C dX4_init_0 rfl 1 rfl ?_
  refine j_objInit C q176 q91 q92 (by omega) (Nat.le_of_ble_eq_true rfl) dX4_init_1 4 rfl ?_
  refine j_aload_n C dX4_init_4 rfl 5 rfl ?_
  refine j_bipush (v := nI 8) C dX4_init_5 (by decide) 7 rfl ?_
  refine j_newarrI C (by decide) (by omega) (by omega) dX4_init_7 9 rfl ?_
  rw [show d + 1 + 1 = d + 2 from rfl]
  refine pf_X4_9 C hini (x := 0) (by simp (disch := omega) only [gl_up_ne, hk]) dX4_init_9 12 rfl ?_
  refine j_aload_n C dX4_init_12 rfl 13 rfl ?_
  refine j_bipush (v := nI 8) C dX4_init_13 (by decide) 15 rfl ?_
  refine j_newarrI C (by decide) (by omega) (by omega) dX4_init_15 17 rfl ?_
  rw [show d + 2 + 1 = d + 3 from rfl]
  refine pf_X4_15 C hini (x := 0) (by simp (disch := omega) only [gl_up_ne, hk]) dX4_init_17 20 rfl ?_
  refine j_aload_n C dX4_init_20 rfl 21 rfl ?_
  refine j_bipush (v := nI 8) C dX4_init_21 (by decide) 23 rfl ?_
  refine j_newarrI C (by decide) (by omega) (by omega) dX4_init_23 25 rfl ?_
  rw [show d + 3 + 1 = d + 4 from rfl]
  refine pf_X4_18 C hini (x := 0) (by simp (disch := omega) only [gl_up_ne, hk]) dX4_init_25 28 rfl ?_
  exact j_ret C hQ ⟨_, _, _, _, _, rfl, ⟨fun c hc => by refine ⟨?_, ?_, ?_, ?_, ?_⟩ <;> simp (disch := omega) only [gl_u2_ne, gl_up_ne], fun c h1 h2 => by
        have hq : c = d ∨ c = d + 1 ∨ c = d + 2 ∨ c = d + 3 := by omega
        rcases hq with rfl | rfl | rfl | rfl <;> refine ⟨?_, ?_, ?_⟩ <;> simp (disch := omega) only [gl_up_eq, gl_up_ne, hI, hLz, hB]⟩, ⟨by simp (disch := omega) only [gl_u2_eq, gl_u2_ne, gl_up_eq, gl_up_ne, hk], by simp (disch := omega) only [gl_u2_eq, gl_u2_ne, gl_up_eq, gl_up_ne, hk], by simp (disch := omega) only [gl_u2_eq, gl_u2_ne, gl_up_eq, gl_up_ne, hk], by simp (disch := omega) only [gl_u2_eq, gl_u2_ne, gl_up_eq, gl_up_ne, hk], by simp (disch := omega) only [gl_u2_eq, gl_u2_ne, gl_up_eq, gl_up_ne, hk], by simp (disch := omega) only [gl_u2_eq, gl_u2_ne, gl_up_eq, gl_up_ne, hk], by simp (disch := omega) only [gl_u2_eq, gl_u2_ne, gl_up_eq, gl_up_ne, hk]⟩⟩ (by omega) (by omega) dX4_init_28
set_option maxHeartbeats 4000000 in
set_option maxRecDepth 100000 in
theorem ct_X5_new {l : Launch} {δ : gl_Del} {sh : Nat → Nat × Nat} {I : Nat → Nat → Int32} {L : Nat → Nat → Int64} {B : Nat → Nat → Bool} {R : Nat → Nat → Option Nat} {d : Nat} (h : Nat) (hh : 1 ≤ h) (hk : sh d = (13, 0)) (hI : I d = fun _ => 0) (hLz : L d = fun _ => 0) (hB : B d = fun _ => false) : gl_Ct l δ yX5_init (ws_ yX5_init cX5_init 1 none) (gl_rm h 2 800) 2 800 [.ref d] ((d + 1, sh), I, L, B, R) (gl_Qv fun S => ∃ sh' I' L' B' R', S = ((d + 3, sh'), I', L', B', R') ∧ gl_nwP d 3 sh sh' I I' L L' B B' R R' ∧ gl_TL (d + 3, sh') R' d) := by
  refine gl_of (by decide) (Nat.le_of_ble_eq_true rfl) rfl ?_
  intro κ C hQ hlκ hδκ hnL hini
  change gl_Cx κ RX5 _ _ _ at C
  refine j_aload_n C dX5_init_0 rfl 1 rfl ?_
  refine j_objInit C q216 q91 q92 (by omega) (Nat.le_of_ble_eq_true rfl) dX5_init_1 4 rfl ?_
  refine j_aload_n C dX5_init_4 rfl 5 rfl ?_
  refine j_sipush (v := nI 400) C dX5_init_5 (by decide) 8 rfl ?_
  refine j_newarrI C (by decide) (by omega) (by omega) dX5_init_8 10 rfl ?_
  rw [show d + 1 + 1 = d + 2 from rfl]
  refine pf_X5_9 C hini (x := 0) (by simp (disch := omega) only [gl_up_ne, hk]) dX5_init_10 13 rfl ?_
  refine j_aload_n C dX5_init_13 rfl 14 rfl ?_
  refine j_sipush (v := nI 400) C dX5_init_14 (by decide) 17 rfl ?_
  refine j_newarrI C (by decide) (by omega) (by omega) dX5_init_17 19 rfl ?_
  rw [show d + 2 + 1 = d + 3 from rfl]
  refine pf_X5_15 C hini (x := 0) (by simp (disch := omega) only [gl_up_ne, hk]) dX5_init_19 22 rfl ?_
  exact j_ret C hQ ⟨_, _, _, _, _, rfl, ⟨fun c hc => by refine ⟨?_, ?_, ?_, ?_, ?_⟩ <;> simp (disch := omega) only [gl_u2_ne, gl_up_ne], fun c h1 h2 => by
        have hq : c = d ∨ c = d + 1 ∨ c = d + 2 := by omega
        rcases hq with rfl | rfl | rfl <;> refine ⟨?_, ?_, ?_⟩ <;> simp (disch := omega) only [gl_up_eq, gl_up_ne, hI, hLz, hB]⟩, ⟨by simp (disch := omega) only [gl_u2_eq, gl_u2_ne, gl_up_eq, gl_up_ne, hk], by simp (disch := omega) only [gl_u2_eq, gl_u2_ne, gl_up_eq, gl_up_ne, hk], by simp (disch := omega) only [gl_u2_eq, gl_u2_ne, gl_up_eq, gl_up_ne, hk], by simp (disch := omega) only [gl_u2_eq, gl_u2_ne, gl_up_eq, gl_up_ne, hk], by simp (disch := omega) only [gl_u2_eq, gl_u2_ne, gl_up_eq, gl_up_ne, hk]⟩⟩ (by omega) (by omega) dX5_init_22
set_option maxHeartbeats 4000000 in
set_option maxRecDepth 100000 in
theorem ct_X6_new {l : Launch} {δ : gl_Del} {sh : Nat → Nat × Nat} {I : Nat → Nat → Int32} {L : Nat → Nat → Int64} {B : Nat → Nat → Bool} {R : Nat → Nat → Option Nat} {d : Nat} (h : Nat) (hh : 1 ≤ h) (hk : sh d = (14, 0)) (hI : I d = fun _ => 0) (hLz : L d = fun _ => 0) (hB : B d = fun _ => false) : gl_Ct l δ yX6_init (ws_ yX6_init cX6_init 1 none) (gl_rm h 1 8) 1 8 [.ref d] ((d + 1, sh), I, L, B, R) (gl_Qv fun S => ∃ sh' I' L' B' R', S = ((d + 2, sh'), I', L', B', R') ∧ gl_nwP d 2 sh sh' I I' L L' B B' R R' ∧ gl_MX (d + 2, sh') R' d (d + 1)) := by
  refine gl_of (by decide) (Nat.le_of_ble_eq_true rfl) rfl ?_
  intro κ C hQ hlκ hδκ hnL hini
  change gl_Cx κ RX6 _ _ _ at C
  refine j_aload_n C dX6_init_0 rfl 1 rfl ?_
  refine j_objInit C q288 q91 q92 (by omega) (Nat.le_of_ble_eq_true rfl) dX6_init_1 4 rfl ?_
  refine j_aload_n C dX6_init_4 rfl 5 rfl ?_
  refine j_bipush (v := nI 8) C dX6_init_5 (by decide) 7 rfl ?_
  refine j_newarrI C (by decide) (by omega) (by omega) dX6_init_7 9 rfl ?_
  rw [show d + 1 + 1 = d + 2 from rfl]
  refine pf_X6_9 C hini (x := 0) (by simp (disch := omega) only [gl_up_ne, hk]) dX6_init_9 12 rfl ?_
  exact j_ret C hQ ⟨_, _, _, _, _, rfl, ⟨fun c hc => by refine ⟨?_, ?_, ?_, ?_, ?_⟩ <;> simp (disch := omega) only [gl_u2_ne, gl_up_ne], fun c h1 h2 => by
        have hq : c = d ∨ c = d + 1 := by omega
        rcases hq with rfl | rfl <;> refine ⟨?_, ?_, ?_⟩ <;> simp (disch := omega) only [gl_up_eq, gl_up_ne, hI, hLz, hB]⟩, ⟨by simp (disch := omega) only [gl_u2_eq, gl_u2_ne, gl_up_eq, gl_up_ne, hk], by simp (disch := omega) only [gl_u2_eq, gl_u2_ne, gl_up_eq, gl_up_ne, hk], by simp (disch := omega) only [gl_u2_eq, gl_u2_ne, gl_up_eq, gl_up_ne, hk], by omega⟩⟩ (by omega) (by omega) dX6_init_12
set_option maxHeartbeats 4000000 in
set_option maxRecDepth 100000 in
theorem ct_X7_new {l : Launch} {δ : gl_Del} {sh : Nat → Nat × Nat} {I : Nat → Nat → Int32} {L : Nat → Nat → Int64} {B : Nat → Nat → Bool} {R : Nat → Nat → Option Nat} {d : Nat} {mx : Nat} (h : Nat) (hh : 1 ≤ h) (hk : sh d = (15, 0)) (hI : I d = fun _ => 0) (hLz : L d = fun _ => 0) (hB : B d = fun _ => false) : gl_Ct l δ yX7_init (ws_ yX7_init cX7_init 2 none) (gl_rm h 2 576) 2 576 [.ref d, .ref mx] ((d + 1, sh), I, L, B, R) (gl_Qv fun S => ∃ sh' I' L' B' R', S = ((d + 3, sh'), I', L', B', R') ∧ gl_nwP d 3 sh sh' I I' L L' B B' R R' ∧ sh' d = (15, 0) ∧ sh' (d + 1) = (0, 512) ∧ sh' (d + 2) = (0, 64) ∧ R' d 0 = some mx ∧ R' d 1 = some (d + 1) ∧ R' d 2 = some (d + 2)) := by
  refine gl_of (by decide) (Nat.le_of_ble_eq_true rfl) rfl ?_
  intro κ C hQ hlκ hδκ hnL hini
  change gl_Cx κ RX7 _ _ _ at C
  refine j_aload_n C dX7_init_0 rfl 1 rfl ?_
  refine j_objInit C q301 q91 q92 (by omega) (Nat.le_of_ble_eq_true rfl) dX7_init_1 4 rfl ?_
  refine j_aload_n C dX7_init_4 rfl 5 rfl ?_
  refine j_sipush (v := nI 512) C dX7_init_5 (by decide) 8 rfl ?_
  refine j_newarrI C (by decide) (by omega) (by omega) dX7_init_8 10 rfl ?_
  rw [show d + 1 + 1 = d + 2 from rfl]
  refine pf_X7_9 C hini (x := 0) (by simp (disch := omega) only [gl_up_ne, hk]) dX7_init_10 13 rfl ?_
  refine j_aload_n C dX7_init_13 rfl 14 rfl ?_
  refine j_bipush (v := nI 64) C dX7_init_14 (by decide) 16 rfl ?_
  refine j_newarrI C (by decide) (by omega) (by omega) dX7_init_16 18 rfl ?_
  rw [show d + 2 + 1 = d + 3 from rfl]
  refine pf_X7_15 C hini (x := 0) (by simp (disch := omega) only [gl_up_ne, hk]) dX7_init_18 21 rfl ?_
  refine j_aload_n C dX7_init_21 rfl 22 rfl ?_
  refine j_aload_n C dX7_init_22 rfl 23 rfl ?_
  refine pf_X7_18 C hini (x := 0) (by simp (disch := omega) only [gl_up_ne, hk]) dX7_init_23 26 rfl ?_
  exact j_ret C hQ ⟨_, _, _, _, _, rfl, ⟨fun c hc => by refine ⟨?_, ?_, ?_, ?_, ?_⟩ <;> simp (disch := omega) only [gl_u2_ne, gl_up_ne], fun c h1 h2 => by
        have hq : c = d ∨ c = d + 1 ∨ c = d + 2 := by omega
        rcases hq with rfl | rfl | rfl <;> refine ⟨?_, ?_, ?_⟩ <;> simp (disch := omega) only [gl_up_eq, gl_up_ne, hI, hLz, hB]⟩, ⟨by simp (disch := omega) only [gl_u2_eq, gl_u2_ne, gl_up_eq, gl_up_ne, hk], by simp (disch := omega) only [gl_u2_eq, gl_u2_ne, gl_up_eq, gl_up_ne, hk], by simp (disch := omega) only [gl_u2_eq, gl_u2_ne, gl_up_eq, gl_up_ne, hk], by simp (disch := omega) only [gl_u2_eq, gl_u2_ne, gl_up_eq, gl_up_ne, hk], by simp (disch := omega) only [gl_u2_eq, gl_u2_ne, gl_up_eq, gl_up_ne, hk], by simp (disch := omega) only [gl_u2_eq, gl_u2_ne, gl_up_eq, gl_up_ne, hk]⟩⟩ (by omega) (by omega) dX7_init_26
set_option maxHeartbeats 4000000 in
set_option maxRecDepth 100000 in
theorem ct_X8_new {l : Launch} {δ : gl_Del} {sh : Nat → Nat × Nat} {I : Nat → Nat → Int32} {L : Nat → Nat → Int64} {B : Nat → Nat → Bool} {R : Nat → Nat → Option Nat} {d : Nat} {mx : Nat} (h : Nat) (hh : 1 ≤ h) (hk : sh d = (16, 0)) (hI : I d = fun _ => 0) (hLz : L d = fun _ => 0) (hB : B d = fun _ => false) : gl_Ct l δ yX8_init (ws_ yX8_init cX8_init 2 none) (gl_rm h 5 9608) 5 9608 [.ref d, .ref mx] ((d + 1, sh), I, L, B, R) (gl_Qv fun S => ∃ sh' I' L' B' R', S = ((d + 6, sh'), I', L', B', R') ∧ gl_nwP d 6 sh sh' I I' L L' B B' R R' ∧ sh' d = (16, 0) ∧ sh' (d + 1) = (0, 400) ∧ sh' (d + 2) = (0, 400) ∧ sh' (d + 3) = (0, 3200) ∧ sh' (d + 4) = (0, 5600) ∧ sh' (d + 5) = (0, 8) ∧ R' d 0 = some mx ∧ R' d 1 = some (d + 1) ∧ R' d 2 = some (d + 2) ∧ R' d 3 = some (d + 3) ∧ R' d 4 = some (d + 4) ∧ R' d 5 = some (d + 5)) := by
  refine gl_of (by decide) (Nat.le_of_ble_eq_true rfl) rfl ?_
  intro κ C hQ hlκ hδκ hnL hini
  change gl_Cx κ RX8 _ _ _ at C
  refine j_aload_n C dX8_init_0 rfl 1 rfl ?_
  refine j_objInit C q323 q91 q92 (by omega) (Nat.le_of_ble_eq_true rfl) dX8_init_1 4 rfl ?_
  refine j_aload_n C dX8_init_4 rfl 5 rfl ?_
  refine j_sipush (v := nI 400) C dX8_init_5 (by decide) 8 rfl ?_
  refine j_newarrI C (by decide) (by omega) (by omega) dX8_init_8 10 rfl ?_
  rw [show d + 1 + 1 = d + 2 from rfl]
  refine pf_X8_9 C hini (x := 0) (by simp (disch := omega) only [gl_up_ne, hk]) dX8_init_10 13 rfl ?_
  refine j_aload_n C dX8_init_13 rfl 14 rfl ?_
  refine j_sipush (v := nI 400) C dX8_init_14 (by decide) 17 rfl ?_
  refine j_newarrI C (by decide) (by omega) (by omega) dX8_init_17 19 rfl ?_
  rw [show d + 2 + 1 = d + 3 from rfl]
  refine pf_X8_15 C hini (x := 0) (by simp (disch := omega) only [gl_up_ne, hk]) dX8_init_19 22 rfl ?_
  refine j_aload_n C dX8_init_22 rfl 23 rfl ?_
  refine j_sipush (v := nI 3200) C dX8_init_23 (by decide) 26 rfl ?_
  refine j_newarrI C (by decide) (by omega) (by omega) dX8_init_26 28 rfl ?_
  rw [show d + 3 + 1 = d + 4 from rfl]
  refine pf_X8_18 C hini (x := 0) (by simp (disch := omega) only [gl_up_ne, hk]) dX8_init_28 31 rfl ?_
  refine j_aload_n C dX8_init_31 rfl 32 rfl ?_
  refine j_sipush (v := nI 5600) C dX8_init_32 (by decide) 35 rfl ?_
  refine j_newarrI C (by decide) (by omega) (by omega) dX8_init_35 37 rfl ?_
  rw [show d + 4 + 1 = d + 5 from rfl]
  refine pf_X8_21 C hini (x := 0) (by simp (disch := omega) only [gl_up_ne, hk]) dX8_init_37 40 rfl ?_
  refine j_aload_n C dX8_init_40 rfl 41 rfl ?_
  refine j_bipush (v := nI 8) C dX8_init_41 (by decide) 43 rfl ?_
  refine j_newarrI C (by decide) (by omega) (by omega) dX8_init_43 45 rfl ?_
  rw [show d + 5 + 1 = d + 6 from rfl]
  refine pf_X8_24 C hini (x := 0) (by simp (disch := omega) only [gl_up_ne, hk]) dX8_init_45 48 rfl ?_
  refine j_aload_n C dX8_init_48 rfl 49 rfl ?_
  refine j_aload_n C dX8_init_49 rfl 50 rfl ?_
  refine pf_X8_27 C hini (x := 0) (by simp (disch := omega) only [gl_up_ne, hk]) dX8_init_50 53 rfl ?_
  exact j_ret C hQ ⟨_, _, _, _, _, rfl, ⟨fun c hc => by refine ⟨?_, ?_, ?_, ?_, ?_⟩ <;> simp (disch := omega) only [gl_u2_ne, gl_up_ne], fun c h1 h2 => by
        have hq : c = d ∨ c = d + 1 ∨ c = d + 2 ∨ c = d + 3 ∨ c = d + 4 ∨ c = d + 5 := by omega
        rcases hq with rfl | rfl | rfl | rfl | rfl | rfl <;> refine ⟨?_, ?_, ?_⟩ <;> simp (disch := omega) only [gl_up_eq, gl_up_ne, hI, hLz, hB]⟩, ⟨by simp (disch := omega) only [gl_u2_eq, gl_u2_ne, gl_up_eq, gl_up_ne, hk], by simp (disch := omega) only [gl_u2_eq, gl_u2_ne, gl_up_eq, gl_up_ne, hk], by simp (disch := omega) only [gl_u2_eq, gl_u2_ne, gl_up_eq, gl_up_ne, hk], by simp (disch := omega) only [gl_u2_eq, gl_u2_ne, gl_up_eq, gl_up_ne, hk], by simp (disch := omega) only [gl_u2_eq, gl_u2_ne, gl_up_eq, gl_up_ne, hk], by simp (disch := omega) only [gl_u2_eq, gl_u2_ne, gl_up_eq, gl_up_ne, hk], by simp (disch := omega) only [gl_u2_eq, gl_u2_ne, gl_up_eq, gl_up_ne, hk], by simp (disch := omega) only [gl_u2_eq, gl_u2_ne, gl_up_eq, gl_up_ne, hk], by simp (disch := omega) only [gl_u2_eq, gl_u2_ne, gl_up_eq, gl_up_ne, hk], by simp (disch := omega) only [gl_u2_eq, gl_u2_ne, gl_up_eq, gl_up_ne, hk], by simp (disch := omega) only [gl_u2_eq, gl_u2_ne, gl_up_eq, gl_up_ne, hk], by simp (disch := omega) only [gl_u2_eq, gl_u2_ne, gl_up_eq, gl_up_ne, hk]⟩⟩ (by omega) (by omega) dX8_init_53
