/-! MODULE GlassLog: the constructor (by gen74.py) -/
set_option maxRecDepth 100000
def gl_zs (n : Nat) (I : Nat → Nat → Int32) (L : Nat → Nat → Int64) (B : Nat → Nat → Bool) : Prop := ∀ c, c < n → I c = (fun _ => 0) ∧ L c = (fun _ => 0) ∧ B c = (fun _ => false)
theorem gl_zs.s {d n : Nat} {sh sh' : Nat → Nat × Nat} {I I' : Nat → Nat → Int32} {L L' : Nat → Nat → Int64} {B B' : Nat → Nat → Bool} {R R' : Nat → Nat → Option Nat} {k : Nat × Nat} {r : Nat → Option Nat} (h : gl_zs d I L B) (hw : gl_nwP d n (va_up sh d k) sh' (va_up I d (fun _ => 0)) I' (va_up L d (fun _ => 0)) L' (va_up B d (fun _ => false)) B' (va_up R d r) R') : gl_zs (d + n) I' L' B' := by
  intro c hc
  rcases Nat.lt_or_ge c d with q | q
  · obtain ⟨a1, a2, a3, a4, a5⟩ := hw.1 c q
    rw [a2, a3, a4, gl_up_ne (by omega), gl_up_ne (by omega), gl_up_ne (by omega)]
    exact h c q
  · exact hw.2 c q hc
theorem gl_zs.a {d : Nat} {I : Nat → Nat → Int32} {L : Nat → Nat → Int64} {B : Nat → Nat → Bool} (h : gl_zs d I L B) : gl_zs (d + 1) (va_up I d (fun _ => 0)) (va_up L d (fun _ => 0)) (va_up B d (fun _ => false)) := by
  intro c hc
  rcases Nat.lt_or_ge c d with q | q
  · rw [gl_up_ne (by omega), gl_up_ne (by omega), gl_up_ne (by omega)]
    exact h c q
  · obtain rfl : c = d := by omega
    rw [gl_up_eq, gl_up_eq, gl_up_eq]
    exact ⟨rfl, rfl, rfl⟩
theorem gl_nwP.sh {d n c : Nat} {sh sh' : Nat → Nat × Nat} {I I' : Nat → Nat → Int32} {L L' : Nat → Nat → Int64} {B B' : Nat → Nat → Bool} {R R' : Nat → Nat → Option Nat} {k : Nat × Nat} {r : Nat → Option Nat} (hw : gl_nwP d n (va_up sh d k) sh' I I' L L' B B' (va_up R d r) R') (hc : c < d) : sh' c = sh c ∧ R' c = R c := by
  obtain ⟨a1, a2, a3, a4, a5⟩ := hw.1 c hc
  rw [a1, a5, gl_up_ne (by omega), gl_up_ne (by omega)]
  exact ⟨rfl, rfl⟩
set_option maxHeartbeats 4000000 in
set_option maxRecDepth 100000 in
theorem ct_X0_new {l : Launch} {δ : gl_Del} {sh : Nat → Nat × Nat} {I : Nat → Nat → Int32} {L : Nat → Nat → Int64} {B : Nat → Nat → Bool} {R : Nat → Nat → Option Nat} (h : Nat) (hh : 3 ≤ h) (hk : sh 0 = (8, 0)) (hI : I 0 = fun _ => 0) (hLz : L 0 = fun _ => 0) (hB : B 0 = fun _ => false) (hR : R 0 = fun _ => none) : gl_Ct l δ yX0_init (ws_ yX0_init cX0_init 1 none) (gl_rm h 706 73663) 706 73663 [.ref 0] ((1, sh), I, L, B, R) (gl_Qv fun S => ∃ sh' I' L' B' R', S = ((707, sh'), I', L', B', R') ∧ gl_zs 707 I' L' B' ∧ gl_GL (707, sh') R' ∧ R' 0 7 = none ∧ ∀ k, k < 16 → R' (122 + k) 0 = none) := by
  refine gl_of (by decide) (Nat.le_of_ble_eq_true rfl) rfl ?_
  intro κ C hQ hlκ hδκ hnL hini
  change gl_Cx κ RX0 _ _ _ at C
  refine j_aload_n C dX0_init_0 rfl 1 rfl ?_
  refine j_objInit C q90 q91 q92 (by omega) (Nat.le_of_ble_eq_true rfl) dX0_init_1 4 rfl ?_
  refine j_aload_n C dX0_init_4 rfl 5 rfl ?_
  refine nw_X0_9 C (by decide) (by decide) dX0_init_5 8 rfl ?_
  refine j_dup C dX0_init_8 rfl 9 rfl ?_
  refine j_cv C (cs_X0_11 C (ct_X1_new (h := 1) (h - 1) (by omega) gl_up_eq gl_up_eq gl_up_eq gl_up_eq) rfl (by omega) (by decide) (by decide) rfl (Nat.le_of_ble_eq_true rfl) dX0_init_9) 12 rfl ?_
  rintro _ ⟨sh2, I2, L2, B2, R2, rfl, hw2, hH, hz⟩
  have s2 : sh2 0 = (8, 0) := (hw2.sh (by decide)).1.trans hk
  have z1 : gl_zs 1 I L B := fun c hc => by
    obtain rfl : c = 0 := by omega
    exact ⟨hI, hLz, hB⟩
  have z2 : gl_zs 690 I2 L2 B2 := z1.s hw2
  refine pf_X0_12 C hini (x := 0) s2 dX0_init_12 15 rfl ?_
  rw [show (1 + 689 : Nat) = 690 from rfl]
  refine j_aload_n C dX0_init_15 rfl 16 rfl ?_
  refine nw_X0_16 C (by decide) (by decide) dX0_init_16 19 rfl ?_
  refine j_dup C dX0_init_19 rfl 20 rfl ?_
  refine j_cv C (cs_X0_18 C (ct_X6_new (d := 690) (h - 1) (by omega) gl_up_eq gl_up_eq gl_up_eq gl_up_eq) rfl (by omega) (by decide) (by decide) rfl (Nat.le_of_ble_eq_true rfl) dX0_init_20) 23 rfl ?_
  rintro _ ⟨sh3, I3, L3, B3, R3, rfl, hw3, hX⟩
  have s3 : sh3 0 = (8, 0) := (hw3.sh (by decide)).1.trans s2
  have z3 : gl_zs 692 I3 L3 B3 := z2.s hw3
  refine pf_X0_19 C hini (x := 0) s3 dX0_init_23 26 rfl ?_
  rw [show (690 + 2 : Nat) = 692 from rfl]
  refine j_aload_n C dX0_init_26 rfl 27 rfl ?_
  refine nw_X0_23 C (by decide) (by decide) dX0_init_27 30 rfl ?_
  refine j_dup C dX0_init_30 rfl 31 rfl ?_
  refine j_aload_n C dX0_init_31 rfl 32 rfl ?_
  refine gf_X0_19 C (x := 0) (by rw [show ((692 + 1, va_up sh3 692 (15, 0)) : gl_Lay).2 0 = sh3 0 from rfl]; exact s3) (show va_up (gl_u2 R3 0 1 (some 690)) 692 (fun _ => none) 0 1 = some 690 by rw [gl_up_ne (by decide), gl_u2_eq, gl_up_eq]) dX0_init_32 35 rfl ?_
  refine j_cv C (cs_X0_25 C (ct_X7_new (d := 692) (mx := 690) (h - 1) (by omega) gl_up_eq gl_up_eq gl_up_eq gl_up_eq) rfl (by omega) (by decide) (by decide) rfl (Nat.le_of_ble_eq_true rfl) dX0_init_35) 38 rfl ?_
  rintro _ ⟨sh4, I4, L4, B4, R4, rfl, hw4, hPl⟩
  have s4 : sh4 0 = (8, 0) := (hw4.sh (by decide)).1.trans s3
  have z4 : gl_zs 695 I4 L4 B4 := z3.s hw4
  refine pf_X0_28 C hini (x := 0) s4 dX0_init_38 41 rfl ?_
  rw [show (692 + 3 : Nat) = 695 from rfl]
  refine j_aload_n C dX0_init_41 rfl 42 rfl ?_
  refine nw_X0_32 C (by decide) (by decide) dX0_init_42 45 rfl ?_
  refine j_dup C dX0_init_45 rfl 46 rfl ?_
  refine j_aload_n C dX0_init_46 rfl 47 rfl ?_
  refine gf_X0_19 C (x := 0) (by rw [show ((695 + 1, va_up sh4 695 (16, 0)) : gl_Lay).2 0 = sh4 0 from rfl]; exact s4) (show va_up (gl_u2 R4 0 2 (some 692)) 695 (fun _ => none) 0 1 = some 690 by rw [gl_up_ne (by decide), gl_u2_eq, gl_up_ne (by decide), (hw4.sh (by decide)).2, gl_u2_eq, gl_up_eq]) dX0_init_47 50 rfl ?_
  refine j_cv C (cs_X0_34 C (ct_X8_new (d := 695) (mx := 690) (h - 1) (by omega) gl_up_eq gl_up_eq gl_up_eq gl_up_eq) rfl (by omega) (by decide) (by decide) rfl (Nat.le_of_ble_eq_true rfl) dX0_init_50) 53 rfl ?_
  rintro _ ⟨sh5, I5, L5, B5, R5, rfl, hw5, hMp⟩
  have s5 : sh5 0 = (8, 0) := (hw5.sh (by decide)).1.trans s4
  have z5 : gl_zs 701 I5 L5 B5 := z4.s hw5
  refine pf_X0_35 C hini (x := 0) s5 dX0_init_53 56 rfl ?_
  rw [show (695 + 6 : Nat) = 701 from rfl]
  refine j_aload_n C dX0_init_56 rfl 57 rfl ?_
  refine nw_X0_39 C (by decide) (by decide) dX0_init_57 60 rfl ?_
  refine j_dup C dX0_init_60 rfl 61 rfl ?_
  refine j_cv C (cs_X0_41 C (ct_X4_new (d := 701) (h - 1) (by omega) gl_up_eq gl_up_eq gl_up_eq gl_up_eq) rfl (by omega) (by decide) (by decide) rfl (Nat.le_of_ble_eq_true rfl) dX0_init_61) 64 rfl ?_
  rintro _ ⟨sh6, I6, L6, B6, R6, rfl, hw6, hAk⟩
  have s6 : sh6 0 = (8, 0) := (hw6.sh (by decide)).1.trans s5
  have z6 : gl_zs 705 I6 L6 B6 := z5.s hw6
  refine pf_X0_42 C hini (x := 0) s6 dX0_init_64 67 rfl ?_
  rw [show (701 + 4 : Nat) = 705 from rfl]
  refine j_aload_n C dX0_init_67 rfl 68 rfl ?_
  refine j_sipush (v := nI 2400) C dX0_init_68 (by decide) 71 rfl ?_
  refine j_newarrI C (by decide) (by decide) (by decide) dX0_init_71 73 rfl ?_
  refine pf_X0_46 C hini (x := 0) (by show va_up sh6 705 (0, 2400) 0 = (8, 0); rw [gl_up_ne (by decide)]; exact s6) dX0_init_73 76 rfl ?_
  rw [show (705 + 1 : Nat) = 706 from rfl]
  refine j_aload_n C dX0_init_76 rfl 77 rfl ?_
  refine j_bipush (v := nI 8) C dX0_init_77 (by decide) 79 rfl ?_
  refine j_newarrI C (by decide) (by decide) (by decide) dX0_init_79 81 rfl ?_
  refine pf_X0_50 C hini (x := 0) (by show va_up (va_up sh6 705 (0, 2400)) 706 (0, 8) 0 = (8, 0); rw [gl_up_ne (by decide), gl_up_ne (by decide)]; exact s6) dX0_init_81 84 rfl ?_
  have f6 : ∀ c, 1 ≤ c → c < 705 → va_up (va_up sh6 705 (0, 2400)) 706 (0, 8) c = sh6 c ∧ (gl_u2 (va_up (gl_u2 (va_up (gl_u2 R6 0 4 (some 701)) 705 (fun _ => none)) 0 5 (some 705)) 706 (fun _ => none)) 0 6 (some 706)) c = R6 c := fun c h1 h2 => by
    rw [gl_up_ne (by omega), gl_up_ne (by omega), gl_u2_ne (by omega), gl_up_ne (by omega), gl_u2_ne (by omega), gl_up_ne (by omega), gl_u2_ne (by omega)]
    exact ⟨rfl, rfl⟩
  have f5 : ∀ c, 1 ≤ c → c < 701 → va_up (va_up sh6 705 (0, 2400)) 706 (0, 8) c = sh5 c ∧ (gl_u2 (va_up (gl_u2 (va_up (gl_u2 R6 0 4 (some 701)) 705 (fun _ => none)) 0 5 (some 705)) 706 (fun _ => none)) 0 6 (some 706)) c = R5 c := fun c h1 h2 => by
    rw [(f6 c h1 (by omega)).1, (f6 c h1 (by omega)).2, (hw6.sh h2).1, (hw6.sh h2).2, gl_u2_ne (by omega)]
    exact ⟨rfl, rfl⟩
  have f4 : ∀ c, 1 ≤ c → c < 695 → va_up (va_up sh6 705 (0, 2400)) 706 (0, 8) c = sh4 c ∧ (gl_u2 (va_up (gl_u2 (va_up (gl_u2 R6 0 4 (some 701)) 705 (fun _ => none)) 0 5 (some 705)) 706 (fun _ => none)) 0 6 (some 706)) c = R4 c := fun c h1 h2 => by
    rw [(f5 c h1 (by omega)).1, (f5 c h1 (by omega)).2, (hw5.sh h2).1, (hw5.sh h2).2, gl_u2_ne (by omega)]
    exact ⟨rfl, rfl⟩
  have f3 : ∀ c, 1 ≤ c → c < 692 → va_up (va_up sh6 705 (0, 2400)) 706 (0, 8) c = sh3 c ∧ (gl_u2 (va_up (gl_u2 (va_up (gl_u2 R6 0 4 (some 701)) 705 (fun _ => none)) 0 5 (some 705)) 706 (fun _ => none)) 0 6 (some 706)) c = R3 c := fun c h1 h2 => by
    rw [(f4 c h1 (by omega)).1, (f4 c h1 (by omega)).2, (hw4.sh h2).1, (hw4.sh h2).2, gl_u2_ne (by omega)]
    exact ⟨rfl, rfl⟩
  have f2 : ∀ c, 1 ≤ c → c < 690 → va_up (va_up sh6 705 (0, 2400)) 706 (0, 8) c = sh2 c ∧ (gl_u2 (va_up (gl_u2 (va_up (gl_u2 R6 0 4 (some 701)) 705 (fun _ => none)) 0 5 (some 705)) 706 (fun _ => none)) 0 6 (some 706)) c = R2 c := fun c h1 h2 => by
    rw [(f3 c h1 (by omega)).1, (f3 c h1 (by omega)).2, (hw3.sh h2).1, (hw3.sh h2).2, gl_u2_ne (by omega)]
    exact ⟨rfl, rfl⟩
  have e0 : (gl_u2 (va_up (gl_u2 (va_up (gl_u2 R6 0 4 (some 701)) 705 (fun _ => none)) 0 5 (some 705)) 706 (fun _ => none)) 0 6 (some 706)) 0 = va_up (va_up (va_up (va_up (va_up (va_up (va_up (fun _ => none) 0 (some 1)) 1 (some 690)) 2 (some 692)) 3 (some 695)) 4 (some 701)) 5 (some 705)) 6 (some 706) := by
    rw [gl_u2_eq, gl_up_ne (by decide), gl_u2_eq, gl_up_ne (by decide), gl_u2_eq, (hw6.sh (by decide)).2, gl_u2_eq, (hw5.sh (by decide)).2, gl_u2_eq, (hw4.sh (by decide)).2, gl_u2_eq, (hw3.sh (by decide)).2, gl_u2_eq, (hw2.sh (by decide)).2, hR]
  refine j_ret C hQ ⟨_, _, _, _, _, rfl, gl_zs.a (gl_zs.a z6), ?_, ?_, ?_⟩ (by decide) (by decide) dX0_init_84
  · exact ⟨by show va_up (va_up sh6 705 (0, 2400)) 706 (0, 8) 0 = (8, 0); rw [gl_up_ne (by decide), gl_up_ne (by decide)]; exact s6, by rw [e0]; rfl, by rw [e0]; rfl, by rw [e0]; rfl, by rw [e0]; rfl, by rw [e0]; rfl, by rw [e0]; rfl, by rw [e0]; rfl, hH.of_eq (fun c h1 h2 => (f2 c h1 (by omega)).1) (fun c j h1 h2 _ => by rw [(f2 c h1 (by omega)).2]), ⟨(f3 690 (by decide) (by decide)).1.trans hX.1, (f3 691 (by decide) (by decide)).1.trans hX.2.1, by rw [(f3 690 (by decide) (by decide)).2]; exact hX.2.2.1, by decide⟩, (f4 692 (by decide) (by decide)).1.trans hPl.1, (f4 693 (by decide) (by decide)).1.trans hPl.2.1, (f4 694 (by decide) (by decide)).1.trans hPl.2.2.1, by rw [(f4 692 (by decide) (by decide)).2]; exact hPl.2.2.2.1, by rw [(f4 692 (by decide) (by decide)).2]; exact hPl.2.2.2.2.1, by rw [(f4 692 (by decide) (by decide)).2]; exact hPl.2.2.2.2.2, (f5 695 (by decide) (by decide)).1.trans hMp.1, (f5 696 (by decide) (by decide)).1.trans hMp.2.1, (f5 697 (by decide) (by decide)).1.trans hMp.2.2.1, (f5 698 (by decide) (by decide)).1.trans hMp.2.2.2.1, (f5 699 (by decide) (by decide)).1.trans hMp.2.2.2.2.1, (f5 700 (by decide) (by decide)).1.trans hMp.2.2.2.2.2.1, by rw [(f5 695 (by decide) (by decide)).2]; exact hMp.2.2.2.2.2.2.1, by rw [(f5 695 (by decide) (by decide)).2]; exact hMp.2.2.2.2.2.2.2.1, by rw [(f5 695 (by decide) (by decide)).2]; exact hMp.2.2.2.2.2.2.2.2.1, by rw [(f5 695 (by decide) (by decide)).2]; exact hMp.2.2.2.2.2.2.2.2.2.1, by rw [(f5 695 (by decide) (by decide)).2]; exact hMp.2.2.2.2.2.2.2.2.2.2.1, by rw [(f5 695 (by decide) (by decide)).2]; exact hMp.2.2.2.2.2.2.2.2.2.2.2, hAk.of_eq (fun c h1 h2 => (f6 c (by omega) (by omega)).1) (fun c j h1 h2 => by rw [(f6 c (by omega) (by omega)).2]), by show va_up (va_up sh6 705 (0, 2400)) 706 (0, 8) 705 = (0, 2400); rw [gl_up_ne (by decide), gl_up_eq], (by show va_up (va_up sh6 705 (0, 2400)) 706 (0, 8) 706 = (0, 8); rw [gl_up_eq])⟩
  · rw [e0]; rfl
  · intro k hk_
    rw [(f2 (122 + k) (by omega) (by omega)).2]
    have := hz k hk_
    rw [show 1 + 121 + k = 122 + k by omega] at this
    exact this
