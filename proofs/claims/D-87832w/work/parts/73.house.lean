/-! MODULE GlassLog: constructors of logs, houses, the whole (by gen73.py) -/
set_option maxRecDepth 100000
theorem gl_nwP.ext {d n m : Nat} {sh sh' sh2 : Nat → Nat × Nat} {I I' I2 : Nat → Nat → Int32} {L L' L2 : Nat → Nat → Int64} {B B' B2 : Nat → Nat → Bool} {R R' R2 : Nat → Nat → Option Nat} (h1 : gl_nwP d n sh sh' I I' L L' B B' R R') (h2 : gl_nwP (d + n) m sh' sh2 I' I2 L' L2 B' B2 R' R2) : gl_nwP d (n + m) sh sh2 I I2 L L2 B B2 R R2 := h1.tr (fun c hc => ⟨fun _ => ⟨(h2.1 c hc).1, (h2.1 c hc).2.2.2.2⟩, (h2.1 c hc).2.1, (h2.1 c hc).2.2.1, (h2.1 c hc).2.2.2.1⟩) (fun c a b => h2.2 c a b)
/-- a reference of a new cell is set -/
theorem gl_nwP.setR {d n x j : Nat} {v : Option Nat} {sh sh' : Nat → Nat × Nat} {I I' : Nat → Nat → Int32} {L L' : Nat → Nat → Int64} {B B' : Nat → Nat → Bool} {R R' : Nat → Nat → Option Nat} (h1 : gl_nwP d n sh sh' I I' L L' B B' R R') (hx : d ≤ x) : gl_nwP d n sh sh' I I' L L' B B' R (gl_u2 R' x j v) := ⟨fun c hc => ⟨(h1.1 c hc).1, (h1.1 c hc).2.1, (h1.1 c hc).2.2.1, (h1.1 c hc).2.2.2.1, by rw [gl_u2_ne (by omega)]; exact (h1.1 c hc).2.2.2.2⟩, h1.2⟩
/-- one array more -/
theorem gl_nwP.one {N : Nat} {q : Nat × Nat} {sh : Nat → Nat × Nat} {I : Nat → Nat → Int32} {L : Nat → Nat → Int64} {B : Nat → Nat → Bool} {R : Nat → Nat → Option Nat} {r : Nat → Option Nat} : gl_nwP N 1 sh (va_up sh N q) I (va_up I N (fun _ => 0)) L (va_up L N (fun _ => 0)) B (va_up B N (fun _ => false)) R (va_up R N r) := by
  refine ⟨fun c hc => ?_, fun c h1 h2 => ?_⟩
  · rw [gl_up_ne (by omega), gl_up_ne (by omega), gl_up_ne (by omega), gl_up_ne (by omega), gl_up_ne (by omega)]
    exact ⟨rfl, rfl, rfl, rfl, rfl⟩
  · obtain rfl : c = N := by omega
    rw [gl_up_eq, gl_up_eq, gl_up_eq]
    exact ⟨rfl, rfl, rfl⟩
theorem gl_nwP.self {d : Nat} {sh : Nat → Nat × Nat} {I : Nat → Nat → Int32} {L : Nat → Nat → Int64} {B : Nat → Nat → Bool} {R : Nat → Nat → Option Nat} (hI : I d = fun _ => 0) (hL : L d = fun _ => 0) (hB : B d = fun _ => false) : gl_nwP d 1 sh sh I I L L B B R R := ⟨fun c _ => ⟨rfl, rfl, rfl, rfl, rfl⟩, fun c h1 h2 => by
  obtain rfl : c = d := by omega
  exact ⟨hI, hL, hB⟩⟩
theorem gl_cl_X2_35 : Cond.classLink RX2 35 (FieldType.array .int).toString ∈ lw_all := by
  have e_ : (FieldType.array .int).toString = "[I" := by decide +kernel
  rw [e_]
  exact q112
def gl_LP (sh : Nat → Nat × Nat) (R : Nat → Nat → Option Nat) (l j : Nat) : Prop := (sh l = (10, 0) ∧ sh (l + 1) = (0, 400) ∧ sh (l + 2) = (0, 100) ∧ sh (l + 3) = (0, 100) ∧ sh (l + 4) = (2, 400) ∧ sh (l + 5) = (1, 400) ∧ sh (l + 6) = (1, 400) ∧ sh (l + 7) = (1, 100) ∧ sh (l + 8) = (7, 10) ∧ R l 0 = some (l + 1) ∧ R l 1 = some (l + 2) ∧ R l 2 = some (l + 3) ∧ R l 3 = some (l + 4) ∧ R l 4 = some (l + 5) ∧ R l 5 = some (l + 6) ∧ R l 6 = some (l + 7) ∧ R l 7 = some (l + 8)) ∧ ∀ r, r < j → sh (l + 9 + r) = (0, (400 / 2 ^ r + 1) * 8) ∧ R (l + 8) r = some (l + 9 + r)
theorem gl_LP.LL {sh : Nat → Nat × Nat} {R : Nat → Nat → Option Nat} {l N : Nat} (h : gl_LP sh R l 10) : gl_LL (N, sh) R l := by
  obtain ⟨⟨a0, a1, a2, a3, a4, a5, a6, a7, a8, b0, b1, b2, b3, b4, b5, b6, b7⟩, c⟩ := h
  exact ⟨a0, a1, a2, a3, a4, a5, a6, a7, a8, b0, b1, b2, b3, b4, b5, b6, b7, fun r hr => (c r hr).1, fun r hr => (c r hr).2⟩
theorem gl_LP.s {sh : Nat → Nat × Nat} {R : Nat → Nat → Option Nat} {l j : Nat} (h : gl_LP sh R l j) : gl_LP (va_up sh (l + 9 + j) (0, (400 / 2 ^ j + 1) * 8)) (gl_u2 (va_up R (l + 9 + j) (fun _ => none)) (l + 8) j (some (l + 9 + j))) l (j + 1) := by
  obtain ⟨⟨a0, a1, a2, a3, a4, a5, a6, a7, a8, b0, b1, b2, b3, b4, b5, b6, b7⟩, c⟩ := h
  refine ⟨⟨by rw [gl_up_ne (by omega)]; exact a0, by rw [gl_up_ne (by omega)]; exact a1, by rw [gl_up_ne (by omega)]; exact a2, by rw [gl_up_ne (by omega)]; exact a3, by rw [gl_up_ne (by omega)]; exact a4, by rw [gl_up_ne (by omega)]; exact a5, by rw [gl_up_ne (by omega)]; exact a6, by rw [gl_up_ne (by omega)]; exact a7, by rw [gl_up_ne (by omega)]; exact a8, by rw [gl_u2_ne (by omega), gl_up_ne (by omega)]; exact b0, by rw [gl_u2_ne (by omega), gl_up_ne (by omega)]; exact b1, by rw [gl_u2_ne (by omega), gl_up_ne (by omega)]; exact b2, by rw [gl_u2_ne (by omega), gl_up_ne (by omega)]; exact b3, by rw [gl_u2_ne (by omega), gl_up_ne (by omega)]; exact b4, by rw [gl_u2_ne (by omega), gl_up_ne (by omega)]; exact b5, by rw [gl_u2_ne (by omega), gl_up_ne (by omega)]; exact b6, by rw [gl_u2_ne (by omega), gl_up_ne (by omega)]; exact b7⟩, fun r hr => ?_⟩
  rw [gl_u2_eq, gl_up_ne (show l + 8 ≠ l + 9 + j by omega)]
  rcases Nat.lt_or_ge r j with q | q
  · rw [gl_up_ne (by omega), gl_up_ne (by omega)]
    exact c r q
  · obtain rfl : r = j := by omega
    rw [gl_up_eq, gl_up_eq]
    exact ⟨rfl, rfl⟩
theorem gl_rsum : ∀ j, j ≤ 10 → gl_sum (fun i => (400 / 2 ^ i + 1) * 8) j ≤ 6456 := by decide
set_option maxHeartbeats 4000000 in
set_option maxRecDepth 100000 in
theorem ct_X2_new {l : Launch} {δ : gl_Del} {sh : Nat → Nat × Nat} {I : Nat → Nat → Int32} {L : Nat → Nat → Int64} {B : Nat → Nat → Bool} {R : Nat → Nat → Option Nat} {d : Nat} (h : Nat) (hh : 1 ≤ h) (hk : sh d = (10, 0)) (hI : I d = fun _ => 0) (hLz : L d = fun _ => 0) (hB : B d = fun _ => false) : gl_Ct l δ yX2_init (ws_ yX2_init cX2_init 2 none) (gl_rm h 18 8366) 18 8366 [.ref d] ((d + 1, sh), I, L, B, R) (gl_Qv fun S => ∃ sh' I' L' B' R', S = ((d + 19, sh'), I', L', B', R') ∧ gl_nwP d 19 sh sh' I I' L L' B B' R R' ∧ gl_LL (d + 19, sh') R' d) := by
  refine gl_of (by decide) (Nat.le_of_ble_eq_true rfl) rfl ?_
  intro κ C hQ hlκ hδκ hnL hini
  change gl_Cx κ RX2 _ _ _ at C
  have loop : ∀ k j : Nat, j + k = 10 → ∀ (sh1 : Nat → Nat × Nat) (I1 : Nat → Nat → Int32) (L1 : Nat → Nat → Int64) (B1 : Nat → Nat → Bool) (R1 : Nat → Nat → Option Nat) (nc ns : Nat), nc = 8 + j → ns = 1910 + gl_sum (fun i => (400 / 2 ^ i + 1) * 8) j → gl_nwP d (9 + j) sh sh1 I I1 L L1 B B1 R R1 → gl_LP sh1 R1 d j → gl_J κ nc ns ((d + 9 + j, sh1), I1, L1, B1, R1) 75 [some (.ref d), some (.int (nI j))] [] := by
    intro k
    induction k with
    | zero =>
      intro j hj sh1 I1 L1 B1 R1 nc ns hnc hns hN hP
      obtain rfl : j = 10 := by omega
      have hrs := gl_rsum 10 (by decide)
      refine j_iload_n C dX2_init_75 rfl 76 rfl ?_
      refine j_bipush (v := nI 10) C dX2_init_76 (by decide) 78 rfl ?_
      refine n_icmp_ge C 105 81 dX2_init_78 (by decide) rfl (by omega) (by omega) (fun c_78 => ?_) (fun c_78 => ?_)
      · exact j_ret C hQ ⟨_, _, _, _, _, rfl, hN, hP.LL⟩ (by omega) (by omega) dX2_init_105
      · exact absurd c_78 (by omega)
    | succ k ih =>
      intro j hj sh1 I1 L1 B1 R1 nc ns hnc hns hN hP
      have hrs := gl_rsum (j + 1) (by omega)
      have hrs2 : gl_sum (fun i => (400 / 2 ^ i + 1) * 8) (j + 1) = gl_sum (fun i => (400 / 2 ^ i + 1) * 8) j + (400 / 2 ^ j + 1) * 8 := rfl
      have hd2 : 400 / 2 ^ j ≤ 400 := Nat.div_le_self _ _
      refine j_iload_n C dX2_init_75 rfl 76 rfl ?_
      refine j_bipush (v := nI 10) C dX2_init_76 (by decide) 78 rfl ?_
      refine n_icmp_ge C 105 81 dX2_init_78 (by decide) rfl (by omega) (by omega) (fun c_78 => ?_) (fun c_78 => ?_)
      · exact absurd c_78 (by omega)
      · refine j_aload_n C dX2_init_81 rfl 82 rfl ?_
        refine gf_X2_36 C hP.1.1 (hP.1.2.2.2.2.2.2.2.2.2.2.2.2.2.2.2.2) dX2_init_82 85 rfl ?_
        refine j_iload_n C dX2_init_85 rfl 86 rfl ?_
        refine j_sipush (v := nI 400) C dX2_init_86 (by decide) 89 rfl ?_
        refine j_iload_n C dX2_init_89 rfl 90 rfl ?_
        refine n_ishr C dX2_init_90 (by omega) (by decide) 91 rfl ?_
        refine j_iconst (v := nI 1) C dX2_init_91 (by decide) 92 rfl ?_
        refine n_iadd C dX2_init_92 93 rfl ?_
        refine j_bipush (v := nI 8) C dX2_init_93 (by decide) 95 rfl ?_
        refine n_imul C dX2_init_95 96 rfl ?_
        refine j_newarrI C (by omega) (by omega) (by omega) dX2_init_96 98 rfl ?_
        refine j_aastA C (show va_up sh1 (d + 9 + j) (0, (400 / 2 ^ j + 1) * 8) (d + 8) = (7, 10) by rw [gl_up_ne (by omega)]; exact hP.1.2.2.2.2.2.2.2.2.1) gl_up_eq (by omega) (by decide) dX2_init_98 99 rfl ?_
        refine n_iinc C dX2_init_99 rfl (by rw [hnL]; decide) rfl 102 rfl ?_
        refine j_goto (tgt := 75) C dX2_init_102 (by decide) ?_
        have hw := (gl_nwP.one (N := d + (9 + j)) (q := (0, (400 / 2 ^ j + 1) * 8)) (sh := sh1) (I := I1) (L := L1) (B := B1) (R := R1) (r := fun _ => none))
        have hw2 := (hN.ext hw).setR (x := d + 8) (j := j) (v := some (d + 9 + j)) (by omega)
        rw [show d + (9 + j) = d + 9 + j by omega, show 9 + j + 1 = 9 + (j + 1) by omega] at hw2
        exact ih (j + 1) (by omega) _ _ _ _ _ _ _ (by omega) (by omega) hw2 hP.s
  refine j_aload_n C dX2_init_0 rfl 1 rfl ?_
  refine j_objInit C q111 q91 q92 (by omega) (Nat.le_of_ble_eq_true rfl) dX2_init_1 4 rfl ?_
  refine j_aload_n C dX2_init_4 rfl 5 rfl ?_
  refine j_sipush (v := nI 400) C dX2_init_5 (by decide) 8 rfl ?_
  refine j_newarrI C (by decide) (by omega) (by omega) dX2_init_8 10 rfl ?_
  rw [show d + 1 + 1 = d + 2 from rfl]
  refine pf_X2_9 C hini (x := 0) (by simp (disch := omega) only [gl_up_ne, hk]) dX2_init_10 13 rfl ?_
  refine j_aload_n C dX2_init_13 rfl 14 rfl ?_
  refine j_bipush (v := nI 100) C dX2_init_14 (by decide) 16 rfl ?_
  refine j_newarrI C (by decide) (by omega) (by omega) dX2_init_16 18 rfl ?_
  rw [show d + 2 + 1 = d + 3 from rfl]
  refine pf_X2_15 C hini (x := 0) (by simp (disch := omega) only [gl_up_ne, hk]) dX2_init_18 21 rfl ?_
  refine j_aload_n C dX2_init_21 rfl 22 rfl ?_
  refine j_bipush (v := nI 100) C dX2_init_22 (by decide) 24 rfl ?_
  refine j_newarrI C (by decide) (by omega) (by omega) dX2_init_24 26 rfl ?_
  rw [show d + 3 + 1 = d + 4 from rfl]
  refine pf_X2_18 C hini (x := 0) (by simp (disch := omega) only [gl_up_ne, hk]) dX2_init_26 29 rfl ?_
  refine j_aload_n C dX2_init_29 rfl 30 rfl ?_
  refine j_sipush (v := nI 400) C dX2_init_30 (by decide) 33 rfl ?_
  refine j_newarrJ C (by decide) (by omega) (by omega) dX2_init_33 35 rfl ?_
  rw [show d + 4 + 1 = d + 5 from rfl]
  refine pf_X2_21 C hini (x := 0) (by simp (disch := omega) only [gl_up_ne, hk]) dX2_init_35 38 rfl ?_
  refine j_aload_n C dX2_init_38 rfl 39 rfl ?_
  refine j_sipush (v := nI 400) C dX2_init_39 (by decide) 42 rfl ?_
  refine j_newarrZ C (by decide) (by omega) (by omega) dX2_init_42 44 rfl ?_
  rw [show d + 5 + 1 = d + 6 from rfl]
  refine pf_X2_25 C hini (x := 0) (by simp (disch := omega) only [gl_up_ne, hk]) dX2_init_44 47 rfl ?_
  refine j_aload_n C dX2_init_47 rfl 48 rfl ?_
  refine j_sipush (v := nI 400) C dX2_init_48 (by decide) 51 rfl ?_
  refine j_newarrZ C (by decide) (by omega) (by omega) dX2_init_51 53 rfl ?_
  rw [show d + 6 + 1 = d + 7 from rfl]
  refine pf_X2_29 C hini (x := 0) (by simp (disch := omega) only [gl_up_ne, hk]) dX2_init_53 56 rfl ?_
  refine j_aload_n C dX2_init_56 rfl 57 rfl ?_
  refine j_bipush (v := nI 100) C dX2_init_57 (by decide) 59 rfl ?_
  refine j_newarrZ C (by decide) (by omega) (by omega) dX2_init_59 61 rfl ?_
  rw [show d + 7 + 1 = d + 8 from rfl]
  refine pf_X2_32 C hini (x := 0) (by simp (disch := omega) only [gl_up_ne, hk]) dX2_init_61 64 rfl ?_
  refine j_aload_n C dX2_init_64 rfl 65 rfl ?_
  refine j_bipush (v := nI 10) C dX2_init_65 (by decide) 67 rfl ?_
  refine j_newarrA C gl_cl_X2_35 (by decide) (by omega) (by omega) dX2_init_67 70 rfl ?_
  rw [show d + 8 + 1 = d + 9 from rfl]
  refine pf_X2_36 C hini (x := 0) (by simp (disch := omega) only [gl_up_ne, hk]) dX2_init_70 73 rfl ?_
  refine j_iconst (v := nI 0) C dX2_init_73 (by decide) 74 rfl ?_
  refine j_istore_n C dX2_init_74 (Nat.le_of_ble_eq_true rfl) (by rw [hnL]; decide) rfl 75 rfl ?_
  exact loop 10 0 rfl _ _ _ _ _ _ _ rfl rfl ⟨fun c hc => by refine ⟨?_, ?_, ?_, ?_, ?_⟩ <;> simp (disch := omega) only [gl_u2_ne, gl_up_ne], fun c h1 h2 => by
    have hq : c = d ∨ c = d + 1 ∨ c = d + 2 ∨ c = d + 3 ∨ c = d + 4 ∨ c = d + 5 ∨ c = d + 6 ∨ c = d + 7 ∨ c = d + 8 := by omega
    rcases hq with rfl | rfl | rfl | rfl | rfl | rfl | rfl | rfl | rfl <;> refine ⟨?_, ?_, ?_⟩ <;> simp (disch := omega) only [gl_up_eq, gl_up_ne, hI, hLz, hB]⟩ ⟨⟨by simp (disch := omega) only [gl_u2_eq, gl_u2_ne, gl_up_eq, gl_up_ne, hk], by simp (disch := omega) only [gl_u2_eq, gl_u2_ne, gl_up_eq, gl_up_ne, hk], by simp (disch := omega) only [gl_u2_eq, gl_u2_ne, gl_up_eq, gl_up_ne, hk], by simp (disch := omega) only [gl_u2_eq, gl_u2_ne, gl_up_eq, gl_up_ne, hk], by simp (disch := omega) only [gl_u2_eq, gl_u2_ne, gl_up_eq, gl_up_ne, hk], by simp (disch := omega) only [gl_u2_eq, gl_u2_ne, gl_up_eq, gl_up_ne, hk], by simp (disch := omega) only [gl_u2_eq, gl_u2_ne, gl_up_eq, gl_up_ne, hk], by simp (disch := omega) only [gl_u2_eq, gl_u2_ne, gl_up_eq, gl_up_ne, hk], by simp (disch := omega) only [gl_u2_eq, gl_u2_ne, gl_up_eq, gl_up_ne, hk], by simp (disch := omega) only [gl_u2_eq, gl_u2_ne, gl_up_eq, gl_up_ne, hk], by simp (disch := omega) only [gl_u2_eq, gl_u2_ne, gl_up_eq, gl_up_ne, hk], by simp (disch := omega) only [gl_u2_eq, gl_u2_ne, gl_up_eq, gl_up_ne, hk], by simp (disch := omega) only [gl_u2_eq, gl_u2_ne, gl_up_eq, gl_up_ne, hk], by simp (disch := omega) only [gl_u2_eq, gl_u2_ne, gl_up_eq, gl_up_ne, hk], by simp (disch := omega) only [gl_u2_eq, gl_u2_ne, gl_up_eq, gl_up_ne, hk], by simp (disch := omega) only [gl_u2_eq, gl_u2_ne, gl_up_eq, gl_up_ne, hk], by simp (disch := omega) only [gl_u2_eq, gl_u2_ne, gl_up_eq, gl_up_ne, hk]⟩, fun r hr => absurd hr (by omega)⟩
/-- a house that is being made: a logs, b slots, c heads, d blamed ones, e watchers stand -/
def gl_HP (N : Nat) (sh : Nat → Nat × Nat) (R : Nat → Nat → Option Nat) (h a b c d e : Nat) : Prop := (sh h = (9, 0) ∧ sh (h + 1) = (3, 6) ∧ sh (h + 2) = (4, 16) ∧ sh (h + 3) = (5, 12) ∧ sh (h + 4) = (5, 120) ∧ sh (h + 5) = (6, 8) ∧ sh (h + 6) = (0, 12) ∧ R h 0 = some (h + 1) ∧ R h 1 = some (h + 2) ∧ R h 2 = some (h + 3) ∧ R h 3 = some (h + 4) ∧ R h 4 = some (h + 5) ∧ R h 5 = some (h + 6)) ∧ (∀ k, k < a → R (h + 1) k = some (h + 7 + 19 * k) ∧ gl_LL (N, sh) R (h + 7 + 19 * k)) ∧ (∀ k, k < b → R (h + 2) k = some (h + 121 + k) ∧ sh (h + 121 + k) = (11, 0) ∧ R (h + 121 + k) 0 = none) ∧ (∀ k, k < c → R (h + 3) k = some (h + 137 + 4 * k) ∧ gl_DL (N, sh) R (h + 137 + 4 * k)) ∧ (∀ k, k < d → R (h + 4) k = some (h + 185 + 4 * k) ∧ gl_DL (N, sh) R (h + 185 + 4 * k)) ∧ (∀ k, k < e → R (h + 5) k = some (h + 665 + 3 * k) ∧ gl_TL (N, sh) R (h + 665 + 3 * k))
theorem gl_HP.st {N N' M : Nat} {sh sh' : Nat → Nat × Nat} {R R' : Nat → Nat → Option Nat} {h a b c d e i k : Nat} (H : gl_HP N sh R h a b c d e) (hs : ∀ x, h ≤ x → x < M → sh' x = sh x) (hr : ∀ x j, h ≤ x → x < M → ¬ (x = h + i ∧ j = k) → R' x j = R x j) (h7 : h + 7 + 19 * a ≤ M) (hb : b = 0 ∨ h + 121 + b ≤ M) (hc : c = 0 ∨ h + 137 + 4 * c ≤ M) (hd : d = 0 ∨ h + 185 + 4 * d ≤ M) (he : e = 0 ∨ h + 665 + 3 * e ≤ M) (ha6 : a ≤ 6) (hi : (i = 1 ∧ k = a) ∨ (i = 2 ∧ k = b) ∨ (i = 3 ∧ k = c) ∨ (i = 4 ∧ k = d) ∨ (i = 5 ∧ k = e)) : gl_HP N' sh' R' h a b c d e := by
  obtain ⟨⟨a0, a1, a2, a3, a4, a5, a6, b0, b1, b2, b3, b4, b5⟩, p1, p2, p3, p4, p5⟩ := H
  refine ⟨⟨by rw [hs _ (by omega) (by omega)]; exact a0, by rw [hs _ (by omega) (by omega)]; exact a1, by rw [hs _ (by omega) (by omega)]; exact a2, by rw [hs _ (by omega) (by omega)]; exact a3, by rw [hs _ (by omega) (by omega)]; exact a4, by rw [hs _ (by omega) (by omega)]; exact a5, by rw [hs _ (by omega) (by omega)]; exact a6, by rw [hr _ _ (by omega) (by omega) (by omega)]; exact b0, by rw [hr _ _ (by omega) (by omega) (by omega)]; exact b1, by rw [hr _ _ (by omega) (by omega) (by omega)]; exact b2, by rw [hr _ _ (by omega) (by omega) (by omega)]; exact b3, by rw [hr _ _ (by omega) (by omega) (by omega)]; exact b4, by rw [hr _ _ (by omega) (by omega) (by omega)]; exact b5⟩, fun j hj => ?_, fun j hj => ?_, fun j hj => ?_, fun j hj => ?_, fun j hj => ?_⟩
  · exact ⟨by rw [hr _ _ (by omega) (by omega) (by omega)]; exact (p1 j hj).1, (p1 j hj).2.of_eq (fun x q1 q2 => hs x (by omega) (by omega)) (fun x y q1 q2 => hr x y (by omega) (by omega) (by omega))⟩
  · exact ⟨by rw [hr _ _ (by omega) (by omega) (by omega)]; exact (p2 j hj).1, by rw [hs _ (by omega) (by omega)]; exact (p2 j hj).2.1, by rw [hr _ _ (by omega) (by omega) (by omega)]; exact (p2 j hj).2.2⟩
  · exact ⟨by rw [hr _ _ (by omega) (by omega) (by omega)]; exact (p3 j hj).1, (p3 j hj).2.of_eq (fun x q1 q2 => hs x (by omega) (by omega)) (fun x y q1 q2 => hr x y (by omega) (by omega) (by omega))⟩
  · exact ⟨by rw [hr _ _ (by omega) (by omega) (by omega)]; exact (p4 j hj).1, (p4 j hj).2.of_eq (fun x q1 q2 => hs x (by omega) (by omega)) (fun x y q1 q2 => hr x y (by omega) (by omega) (by omega))⟩
  · exact ⟨by rw [hr _ _ (by omega) (by omega) (by omega)]; exact (p5 j hj).1, (p5 j hj).2.of_eq (fun x q1 q2 => hs x (by omega) (by omega)) (fun x y q1 q2 => hr x y (by omega) (by omega) (by omega))⟩
theorem gl_HP.HL {N : Nat} {sh : Nat → Nat × Nat} {R : Nat → Nat → Option Nat} {h : Nat} (H : gl_HP N sh R h 6 16 12 120 8) : gl_HL (N, sh) R h := by
  obtain ⟨⟨a0, a1, a2, a3, a4, a5, a6, b0, b1, b2, b3, b4, b5⟩, p1, p2, p3, p4, p5⟩ := H
  exact ⟨a0, a1, a2, a3, a4, a5, a6, b0, b1, b2, b3, b4, b5, fun k q => (p1 k q).1, fun k q => (p1 k q).2, fun k q => (p2 k q).1, fun k q => (p2 k q).2.1, fun k q => (p3 k q).1, fun k q => (p3 k q).2, fun k q => (p4 k q).1, fun k q => (p4 k q).2, fun k q => (p5 k q).1, fun k q => (p5 k q).2⟩
set_option maxHeartbeats 4000000 in
set_option maxRecDepth 100000 in
theorem ct_X1_new {l : Launch} {δ : gl_Del} {sh : Nat → Nat × Nat} {I : Nat → Nat → Int32} {L : Nat → Nat → Int64} {B : Nat → Nat → Bool} {R : Nat → Nat → Option Nat} {h : Nat} (h_ : Nat) (hh : 2 ≤ h_) (hk : sh h = (9, 0)) (hI : I h = fun _ => 0) (hLz : L h = fun _ => 0) (hB : B h = fun _ => false) : gl_Ct l δ yX1_init (ws_ yX1_init cX1_init 2 none) (gl_rm h_ 688 61008) 688 61008 [.ref h] ((h + 1, sh), I, L, B, R) (gl_Qv fun S => ∃ sh' I' L' B' R', S = ((h + 689, sh'), I', L', B', R') ∧ gl_nwP h 689 sh sh' I I' L L' B B' R R' ∧ gl_HL (h + 689, sh') R' h ∧ ∀ k, k < 16 → R' (h + 121 + k) 0 = none) := by
  refine gl_of (by decide) (Nat.le_of_ble_eq_true rfl) rfl ?_
  intro κ C hQ hlκ hδκ hnL hini
  change gl_Cx κ RX1 _ _ _ at C
  have l5 : ∀ k j : Nat, j + k = 8 → ∀ (sh1 : Nat → Nat × Nat) (I1 : Nat → Nat → Int32) (L1 : Nat → Nat → Int64) (B1 : Nat → Nat → Bool) (R1 : Nat → Nat → Option Nat) (nc ns : Nat) (x1 : Option Value), nc = 664 + 3 * j → ns = 54544 + 808 * j → gl_nwP h (665 + 3 * j) sh sh1 I I1 L L1 B B1 R R1 → gl_HP (h + 665 + 3 * j) sh1 R1 h 6 16 12 120 j → gl_J κ nc ns ((h + 665 + 3 * j, sh1), I1, L1, B1, R1) 167 [some (.ref h), some (.int (nI j))] [] := by
    intro k
    induction k with
    | zero =>
      intro j hj sh1 I1 L1 B1 R1 nc ns x1 hnc hns hN hP
      obtain rfl : j = 8 := by omega
      refine j_iload_n C dX1_init_167 rfl 168 rfl ?_
      refine j_bipush (v := nI 8) C dX1_init_168 (by decide) 170 rfl ?_
      refine n_icmp_ge C 192 173 dX1_init_170 (by decide) rfl (by omega) (by omega) (fun c_170 => ?_) (fun c_170 => ?_)
      · exact j_ret C hQ ⟨_, _, _, _, _, rfl, hN, hP.HL, fun k q_ => (hP.2.2.1 k q_).2.2⟩ (by omega) (by omega) dX1_init_192
      · exact absurd c_170 (by omega)
    | succ k ih =>
      intro j hj sh1 I1 L1 B1 R1 nc ns x1 hnc hns hN hP
      refine j_iload_n C dX1_init_167 rfl 168 rfl ?_
      refine j_bipush (v := nI 8) C dX1_init_168 (by decide) 170 rfl ?_
      refine n_icmp_ge C 192 173 dX1_init_170 (by decide) rfl (by omega) (by omega) (fun c_170 => ?_) (fun c_170 => ?_)
      · exact absurd c_170 (by omega)
      · refine j_aload_n C dX1_init_173 rfl 174 rfl ?_
        refine gf_X1_34 C hP.1.1 hP.1.2.2.2.2.2.2.2.2.2.2.2.1 dX1_init_174 177 rfl ?_
        refine j_iload_n C dX1_init_177 rfl 178 rfl ?_
        refine nw_X1_32 C (by omega) (by omega) dX1_init_178 181 rfl ?_
        refine j_dup C dX1_init_181 rfl 182 rfl ?_
        refine j_cv C (cs_X1_45 C (ct_X5_new (d := h + 665 + 3 * j) (h_ - 1) (by omega) gl_up_eq gl_up_eq gl_up_eq gl_up_eq) rfl (by omega) (by omega) (by omega) rfl (Nat.le_of_ble_eq_true rfl) dX1_init_182) 185 rfl ?_
        rintro _ ⟨sh2, I2, L2, B2, R2, rfl, hw, hLL⟩
        refine j_aast (t := 6) (ci := 5) C (by decide) (fun _ => rfl) rfl (by rw [show ((h + 665 + 3 * j + 3, sh2) : gl_Lay).2 (h + 5) = sh2 (h + 5) from rfl, (hw.1 _ (by omega)).1, gl_up_ne (by omega)]; exact hP.1.2.2.2.2.2.1) (x := 0) hLL.o (by omega) (by decide) dX1_init_185 186 rfl ?_
        refine n_iinc C dX1_init_186 rfl (by rw [hnL]; decide) rfl 189 rfl ?_
        refine j_goto (tgt := 167) C dX1_init_189 (by decide) ?_
        have hw1 := (gl_nwP.one (N := h + 665 + 3 * j) (q := (13, 0)) (sh := sh1) (I := I1) (L := L1) (B := B1) (R := R1) (r := fun _ => none))
        have hH : gl_HP (h + 665 + 3 * j + 3) sh2 (gl_u2 R2 (h + 5) j (some (h + 665 + 3 * j))) h 6 16 12 120 j := by
          refine hP.st (M := h + 665 + 3 * j) (i := 5) (k := j) (fun x q1 q2 => by rw [(hw.1 x q2).1, gl_up_ne (by omega)]) (fun x y q1 q2 q3 => ?_) (by omega) (by omega) (by omega) (by omega) (by omega) (by omega) (by omega)
          by_cases hx : x = h + 5
          · subst hx
            rw [gl_u2_eq, gl_up_ne (by omega), (hw.1 _ q2).2.2.2.2, gl_up_ne (by omega)]
          · rw [gl_u2_ne hx, (hw.1 _ q2).2.2.2.2, gl_up_ne (by omega)]
        have hH2 : gl_HP (h + 665 + 3 * j + 3) sh2 (gl_u2 R2 (h + 5) j (some (h + 665 + 3 * j))) h 6 16 12 120 (j + 1) := by
          obtain ⟨p0, p1, p2, p3, p4, p5⟩ := hH
          refine ⟨p0, p1, p2, p3, p4, ?_⟩
          intro k q
          rcases Nat.lt_or_ge k j with q2 | q2
          · exact p5 k q2
          · obtain rfl : k = j := by omega
            exact ⟨by rw [gl_u2_eq, gl_up_eq], hLL.of_eq (fun x _ _ => rfl) (fun x y q1 q2 => by rw [gl_u2_ne (by omega)])⟩
        have hN2 : gl_nwP h (665 + 3 * j + 3) sh sh2 I I2 L L2 B B2 R (gl_u2 R2 (h + 5) j (some (h + 665 + 3 * j))) := by
          refine gl_nwP.setR (hN.tr (m := 3) (fun c hc => ?_) (fun c q1 q2 => hw.2 c (by omega) (by omega))) (by omega)
          obtain ⟨w1, w2, w3, w4, w5⟩ := hw.1 c (by omega)
          rw [w1, w2, w3, w4, w5, gl_up_ne (by omega), gl_up_ne (by omega), gl_up_ne (by omega), gl_up_ne (by omega), gl_up_ne (by omega)]
          exact ⟨fun _ => ⟨rfl, rfl⟩, rfl, rfl, rfl⟩
        have := ih (j + 1) (by omega) sh2 I2 L2 B2 (gl_u2 R2 (h + 5) j (some (h + 665 + 3 * j))) _ _ (some (.int (nI (j + 1)))) (show nc + 1 + 2 = 664 + 3 * (j + 1) by omega) (show ns + 8 + 800 = 54544 + 808 * (j + 1) by omega) (by rw [show 665 + 3 * (j + 1) = 665 + 3 * j + 3 by omega]; exact hN2) (by rw [show h + 665 + 3 * (j + 1) = h + 665 + 3 * j + 3 by omega]; exact hH2)
        rw [show h + 665 + 3 * (j + 1) = h + 665 + 3 * j + 3 by omega] at this
        exact this
  have l4 : ∀ k j : Nat, j + k = 120 → ∀ (sh1 : Nat → Nat × Nat) (I1 : Nat → Nat → Int32) (L1 : Nat → Nat → Int64) (B1 : Nat → Nat → Bool) (R1 : Nat → Nat → Option Nat) (nc ns : Nat) (x1 : Option Value), nc = 184 + 4 * j → ns = 50824 + 31 * j → gl_nwP h (185 + 4 * j) sh sh1 I I1 L L1 B B1 R R1 → gl_HP (h + 185 + 4 * j) sh1 R1 h 6 16 12 j 0 → gl_J κ nc ns ((h + 185 + 4 * j, sh1), I1, L1, B1, R1) 140 [some (.ref h), some (.int (nI j))] [] := by
    intro k
    induction k with
    | zero =>
      intro j hj sh1 I1 L1 B1 R1 nc ns x1 hnc hns hN hP
      obtain rfl : j = 120 := by omega
      refine j_iload_n C dX1_init_140 rfl 141 rfl ?_
      refine j_bipush (v := nI 120) C dX1_init_141 (by decide) 143 rfl ?_
      refine n_icmp_ge C 165 146 dX1_init_143 (by decide) rfl (by omega) (by omega) (fun c_143 => ?_) (fun c_143 => ?_)
      · refine j_iconst (v := nI 0) C dX1_init_165 (by decide) 166 rfl ?_
        refine j_istore_n C dX1_init_166 (Nat.le_of_ble_eq_true rfl) (by rw [hnL]; decide) rfl 167 rfl ?_
        exact l5 8 0 (by omega) _ _ _ _ _ _ _ none hnc hns hN hP
      · exact absurd c_143 (by omega)
    | succ k ih =>
      intro j hj sh1 I1 L1 B1 R1 nc ns x1 hnc hns hN hP
      refine j_iload_n C dX1_init_140 rfl 141 rfl ?_
      refine j_bipush (v := nI 120) C dX1_init_141 (by decide) 143 rfl ?_
      refine n_icmp_ge C 165 146 dX1_init_143 (by decide) rfl (by omega) (by omega) (fun c_143 => ?_) (fun c_143 => ?_)
      · exact absurd c_143 (by omega)
      · refine j_aload_n C dX1_init_146 rfl 147 rfl ?_
        refine gf_X1_29 C hP.1.1 hP.1.2.2.2.2.2.2.2.2.2.2.1 dX1_init_147 150 rfl ?_
        refine j_iload_n C dX1_init_150 rfl 151 rfl ?_
        refine nw_X1_23 C (by omega) (by omega) dX1_init_151 154 rfl ?_
        refine j_dup C dX1_init_154 rfl 155 rfl ?_
        refine j_cv C (cs_X1_44 C (ct_X4_new (d := h + 185 + 4 * j) (h_ - 1) (by omega) gl_up_eq gl_up_eq gl_up_eq gl_up_eq) rfl (by omega) (by omega) (by omega) rfl (Nat.le_of_ble_eq_true rfl) dX1_init_155) 158 rfl ?_
        rintro _ ⟨sh2, I2, L2, B2, R2, rfl, hw, hLL⟩
        refine j_aast (t := 5) (ci := 4) C (by decide) (fun _ => rfl) rfl (by rw [show ((h + 185 + 4 * j + 4, sh2) : gl_Lay).2 (h + 4) = sh2 (h + 4) from rfl, (hw.1 _ (by omega)).1, gl_up_ne (by omega)]; exact hP.1.2.2.2.2.1) (x := 0) hLL.o (by omega) (by decide) dX1_init_158 159 rfl ?_
        refine n_iinc C dX1_init_159 rfl (by rw [hnL]; decide) rfl 162 rfl ?_
        refine j_goto (tgt := 140) C dX1_init_162 (by decide) ?_
        have hw1 := (gl_nwP.one (N := h + 185 + 4 * j) (q := (12, 0)) (sh := sh1) (I := I1) (L := L1) (B := B1) (R := R1) (r := fun _ => none))
        have hH : gl_HP (h + 185 + 4 * j + 4) sh2 (gl_u2 R2 (h + 4) j (some (h + 185 + 4 * j))) h 6 16 12 j 0 := by
          refine hP.st (M := h + 185 + 4 * j) (i := 4) (k := j) (fun x q1 q2 => by rw [(hw.1 x q2).1, gl_up_ne (by omega)]) (fun x y q1 q2 q3 => ?_) (by omega) (by omega) (by omega) (by omega) (by omega) (by omega) (by omega)
          by_cases hx : x = h + 4
          · subst hx
            rw [gl_u2_eq, gl_up_ne (by omega), (hw.1 _ q2).2.2.2.2, gl_up_ne (by omega)]
          · rw [gl_u2_ne hx, (hw.1 _ q2).2.2.2.2, gl_up_ne (by omega)]
        have hH2 : gl_HP (h + 185 + 4 * j + 4) sh2 (gl_u2 R2 (h + 4) j (some (h + 185 + 4 * j))) h 6 16 12 (j + 1) 0 := by
          obtain ⟨p0, p1, p2, p3, p4, p5⟩ := hH
          refine ⟨p0, p1, p2, p3, ?_, p5⟩
          intro k q
          rcases Nat.lt_or_ge k j with q2 | q2
          · exact p4 k q2
          · obtain rfl : k = j := by omega
            exact ⟨by rw [gl_u2_eq, gl_up_eq], hLL.of_eq (fun x _ _ => rfl) (fun x y q1 q2 => by rw [gl_u2_ne (by omega)])⟩
        have hN2 : gl_nwP h (185 + 4 * j + 4) sh sh2 I I2 L L2 B B2 R (gl_u2 R2 (h + 4) j (some (h + 185 + 4 * j))) := by
          refine gl_nwP.setR (hN.tr (m := 4) (fun c hc => ?_) (fun c q1 q2 => hw.2 c (by omega) (by omega))) (by omega)
          obtain ⟨w1, w2, w3, w4, w5⟩ := hw.1 c (by omega)
          rw [w1, w2, w3, w4, w5, gl_up_ne (by omega), gl_up_ne (by omega), gl_up_ne (by omega), gl_up_ne (by omega), gl_up_ne (by omega)]
          exact ⟨fun _ => ⟨rfl, rfl⟩, rfl, rfl, rfl⟩
        have := ih (j + 1) (by omega) sh2 I2 L2 B2 (gl_u2 R2 (h + 4) j (some (h + 185 + 4 * j))) _ _ (some (.int (nI (j + 1)))) (show nc + 1 + 3 = 184 + 4 * (j + 1) by omega) (show ns + 7 + 24 = 50824 + 31 * (j + 1) by omega) (by rw [show 185 + 4 * (j + 1) = 185 + 4 * j + 4 by omega]; exact hN2) (by rw [show h + 185 + 4 * (j + 1) = h + 185 + 4 * j + 4 by omega]; exact hH2)
        rw [show h + 185 + 4 * (j + 1) = h + 185 + 4 * j + 4 by omega] at this
        exact this
  have l3 : ∀ k j : Nat, j + k = 12 → ∀ (sh1 : Nat → Nat × Nat) (I1 : Nat → Nat → Int32) (L1 : Nat → Nat → Int64) (B1 : Nat → Nat → Bool) (R1 : Nat → Nat → Option Nat) (nc ns : Nat) (x1 : Option Value), nc = 136 + 4 * j → ns = 50452 + 31 * j → gl_nwP h (137 + 4 * j) sh sh1 I I1 L L1 B B1 R R1 → gl_HP (h + 137 + 4 * j) sh1 R1 h 6 16 j 0 0 → gl_J κ nc ns ((h + 137 + 4 * j, sh1), I1, L1, B1, R1) 113 [some (.ref h), some (.int (nI j))] [] := by
    intro k
    induction k with
    | zero =>
      intro j hj sh1 I1 L1 B1 R1 nc ns x1 hnc hns hN hP
      obtain rfl : j = 12 := by omega
      refine j_iload_n C dX1_init_113 rfl 114 rfl ?_
      refine j_bipush (v := nI 12) C dX1_init_114 (by decide) 116 rfl ?_
      refine n_icmp_ge C 138 119 dX1_init_116 (by decide) rfl (by omega) (by omega) (fun c_116 => ?_) (fun c_116 => ?_)
      · refine j_iconst (v := nI 0) C dX1_init_138 (by decide) 139 rfl ?_
        refine j_istore_n C dX1_init_139 (Nat.le_of_ble_eq_true rfl) (by rw [hnL]; decide) rfl 140 rfl ?_
        exact l4 120 0 (by omega) _ _ _ _ _ _ _ none hnc hns hN hP
      · exact absurd c_116 (by omega)
    | succ k ih =>
      intro j hj sh1 I1 L1 B1 R1 nc ns x1 hnc hns hN hP
      refine j_iload_n C dX1_init_113 rfl 114 rfl ?_
      refine j_bipush (v := nI 12) C dX1_init_114 (by decide) 116 rfl ?_
      refine n_icmp_ge C 138 119 dX1_init_116 (by decide) rfl (by omega) (by omega) (fun c_116 => ?_) (fun c_116 => ?_)
      · exact absurd c_116 (by omega)
      · refine j_aload_n C dX1_init_119 rfl 120 rfl ?_
        refine gf_X1_25 C hP.1.1 hP.1.2.2.2.2.2.2.2.2.2.1 dX1_init_120 123 rfl ?_
        refine j_iload_n C dX1_init_123 rfl 124 rfl ?_
        refine nw_X1_23 C (by omega) (by omega) dX1_init_124 127 rfl ?_
        refine j_dup C dX1_init_127 rfl 128 rfl ?_
        refine j_cv C (cs_X1_44 C (ct_X4_new (d := h + 137 + 4 * j) (h_ - 1) (by omega) gl_up_eq gl_up_eq gl_up_eq gl_up_eq) rfl (by omega) (by omega) (by omega) rfl (Nat.le_of_ble_eq_true rfl) dX1_init_128) 131 rfl ?_
        rintro _ ⟨sh2, I2, L2, B2, R2, rfl, hw, hLL⟩
        refine j_aast (t := 5) (ci := 4) C (by decide) (fun _ => rfl) rfl (by rw [show ((h + 137 + 4 * j + 4, sh2) : gl_Lay).2 (h + 3) = sh2 (h + 3) from rfl, (hw.1 _ (by omega)).1, gl_up_ne (by omega)]; exact hP.1.2.2.2.1) (x := 0) hLL.o (by omega) (by decide) dX1_init_131 132 rfl ?_
        refine n_iinc C dX1_init_132 rfl (by rw [hnL]; decide) rfl 135 rfl ?_
        refine j_goto (tgt := 113) C dX1_init_135 (by decide) ?_
        have hw1 := (gl_nwP.one (N := h + 137 + 4 * j) (q := (12, 0)) (sh := sh1) (I := I1) (L := L1) (B := B1) (R := R1) (r := fun _ => none))
        have hH : gl_HP (h + 137 + 4 * j + 4) sh2 (gl_u2 R2 (h + 3) j (some (h + 137 + 4 * j))) h 6 16 j 0 0 := by
          refine hP.st (M := h + 137 + 4 * j) (i := 3) (k := j) (fun x q1 q2 => by rw [(hw.1 x q2).1, gl_up_ne (by omega)]) (fun x y q1 q2 q3 => ?_) (by omega) (by omega) (by omega) (by omega) (by omega) (by omega) (by omega)
          by_cases hx : x = h + 3
          · subst hx
            rw [gl_u2_eq, gl_up_ne (by omega), (hw.1 _ q2).2.2.2.2, gl_up_ne (by omega)]
          · rw [gl_u2_ne hx, (hw.1 _ q2).2.2.2.2, gl_up_ne (by omega)]
        have hH2 : gl_HP (h + 137 + 4 * j + 4) sh2 (gl_u2 R2 (h + 3) j (some (h + 137 + 4 * j))) h 6 16 (j + 1) 0 0 := by
          obtain ⟨p0, p1, p2, p3, p4, p5⟩ := hH
          refine ⟨p0, p1, p2, ?_, p4, p5⟩
          intro k q
          rcases Nat.lt_or_ge k j with q2 | q2
          · exact p3 k q2
          · obtain rfl : k = j := by omega
            exact ⟨by rw [gl_u2_eq, gl_up_eq], hLL.of_eq (fun x _ _ => rfl) (fun x y q1 q2 => by rw [gl_u2_ne (by omega)])⟩
        have hN2 : gl_nwP h (137 + 4 * j + 4) sh sh2 I I2 L L2 B B2 R (gl_u2 R2 (h + 3) j (some (h + 137 + 4 * j))) := by
          refine gl_nwP.setR (hN.tr (m := 4) (fun c hc => ?_) (fun c q1 q2 => hw.2 c (by omega) (by omega))) (by omega)
          obtain ⟨w1, w2, w3, w4, w5⟩ := hw.1 c (by omega)
          rw [w1, w2, w3, w4, w5, gl_up_ne (by omega), gl_up_ne (by omega), gl_up_ne (by omega), gl_up_ne (by omega), gl_up_ne (by omega)]
          exact ⟨fun _ => ⟨rfl, rfl⟩, rfl, rfl, rfl⟩
        have := ih (j + 1) (by omega) sh2 I2 L2 B2 (gl_u2 R2 (h + 3) j (some (h + 137 + 4 * j))) _ _ (some (.int (nI (j + 1)))) (show nc + 1 + 3 = 136 + 4 * (j + 1) by omega) (show ns + 7 + 24 = 50452 + 31 * (j + 1) by omega) (by rw [show 137 + 4 * (j + 1) = 137 + 4 * j + 4 by omega]; exact hN2) (by rw [show h + 137 + 4 * (j + 1) = h + 137 + 4 * j + 4 by omega]; exact hH2)
        rw [show h + 137 + 4 * (j + 1) = h + 137 + 4 * j + 4 by omega] at this
        exact this
  have l2 : ∀ k j : Nat, j + k = 16 → ∀ (sh1 : Nat → Nat × Nat) (I1 : Nat → Nat → Int32) (L1 : Nat → Nat → Int64) (B1 : Nat → Nat → Bool) (R1 : Nat → Nat → Option Nat) (nc ns : Nat) (x1 : Option Value), nc = 120 + 1 * j → ns = 50436 + 1 * j → gl_nwP h (121 + j) sh sh1 I I1 L L1 B B1 R R1 → gl_HP (h + 121 + j) sh1 R1 h 6 j 0 0 0 → gl_J κ nc ns ((h + 121 + j, sh1), I1, L1, B1, R1) 86 [some (.ref h), some (.int (nI j))] [] := by
    intro k
    induction k with
    | zero =>
      intro j hj sh1 I1 L1 B1 R1 nc ns x1 hnc hns hN hP
      obtain rfl : j = 16 := by omega
      refine j_iload_n C dX1_init_86 rfl 87 rfl ?_
      refine j_bipush (v := nI 16) C dX1_init_87 (by decide) 89 rfl ?_
      refine n_icmp_ge C 111 92 dX1_init_89 (by decide) rfl (by omega) (by omega) (fun c_89 => ?_) (fun c_89 => ?_)
      · refine j_iconst (v := nI 0) C dX1_init_111 (by decide) 112 rfl ?_
        refine j_istore_n C dX1_init_112 (Nat.le_of_ble_eq_true rfl) (by rw [hnL]; decide) rfl 113 rfl ?_
        exact l3 12 0 (by omega) _ _ _ _ _ _ _ none hnc hns hN hP
      · exact absurd c_89 (by omega)
    | succ k ih =>
      intro j hj sh1 I1 L1 B1 R1 nc ns x1 hnc hns hN hP
      refine j_iload_n C dX1_init_86 rfl 87 rfl ?_
      refine j_bipush (v := nI 16) C dX1_init_87 (by decide) 89 rfl ?_
      refine n_icmp_ge C 111 92 dX1_init_89 (by decide) rfl (by omega) (by omega) (fun c_89 => ?_) (fun c_89 => ?_)
      · exact absurd c_89 (by omega)
      · refine j_aload_n C dX1_init_92 rfl 93 rfl ?_
        refine gf_X1_19 C hP.1.1 hP.1.2.2.2.2.2.2.2.2.1 dX1_init_93 96 rfl ?_
        refine j_iload_n C dX1_init_96 rfl 97 rfl ?_
        refine nw_X1_17 C (by omega) (by omega) dX1_init_97 100 rfl ?_
        refine j_dup C dX1_init_100 rfl 101 rfl ?_
        refine j_cv C (cs_X1_43 C (ct_X3_new (d := h + 121 + j) (h_ - 1) (by omega) gl_up_eq gl_up_eq gl_up_eq gl_up_eq) rfl (by omega) (by omega) (by omega) rfl (Nat.le_of_ble_eq_true rfl) dX1_init_101) 104 rfl ?_
        rintro _ ⟨sh2, I2, L2, B2, R2, rfl, hw, hs1, hs2⟩
        refine j_aast (t := 4) (ci := 3) C (by decide) (fun _ => rfl) rfl (by rw [show ((h + 121 + j + 1, sh2) : gl_Lay).2 (h + 2) = sh2 (h + 2) from rfl, (hw.1 _ (by omega)).1, gl_up_ne (by omega)]; exact hP.1.2.2.1) (x := 0) hs1 (by omega) (by decide) dX1_init_104 105 rfl ?_
        refine n_iinc C dX1_init_105 rfl (by rw [hnL]; decide) rfl 108 rfl ?_
        refine j_goto (tgt := 86) C dX1_init_108 (by decide) ?_
        have hw1 := (gl_nwP.one (N := h + 121 + j) (q := (11, 0)) (sh := sh1) (I := I1) (L := L1) (B := B1) (R := R1) (r := fun _ => none))
        have hH : gl_HP (h + 121 + j + 1) sh2 (gl_u2 R2 (h + 2) j (some (h + 121 + j))) h 6 j 0 0 0 := by
          refine hP.st (M := h + 121 + j) (i := 2) (k := j) (fun x q1 q2 => by rw [(hw.1 x q2).1, gl_up_ne (by omega)]) (fun x y q1 q2 q3 => ?_) (by omega) (by omega) (by omega) (by omega) (by omega) (by omega) (by omega)
          by_cases hx : x = h + 2
          · subst hx
            rw [gl_u2_eq, gl_up_ne (by omega), (hw.1 _ q2).2.2.2.2, gl_up_ne (by omega)]
          · rw [gl_u2_ne hx, (hw.1 _ q2).2.2.2.2, gl_up_ne (by omega)]
        have hH2 : gl_HP (h + 121 + j + 1) sh2 (gl_u2 R2 (h + 2) j (some (h + 121 + j))) h 6 (j + 1) 0 0 0 := by
          obtain ⟨p0, p1, p2, p3, p4, p5⟩ := hH
          refine ⟨p0, p1, ?_, p3, p4, p5⟩
          intro k q
          rcases Nat.lt_or_ge k j with q2 | q2
          · exact p2 k q2
          · obtain rfl : k = j := by omega
            exact ⟨by rw [gl_u2_eq, gl_up_eq], hs1, by rw [gl_u2_ne (by omega), hs2, gl_up_eq]⟩
        have hN2 : gl_nwP h (121 + j + 1) sh sh2 I I2 L L2 B B2 R (gl_u2 R2 (h + 2) j (some (h + 121 + j))) := by
          refine gl_nwP.setR (hN.tr (m := 1) (fun c hc => ?_) (fun c q1 q2 => hw.2 c (by omega) (by omega))) (by omega)
          obtain ⟨w1, w2, w3, w4, w5⟩ := hw.1 c (by omega)
          rw [w1, w2, w3, w4, w5, gl_up_ne (by omega), gl_up_ne (by omega), gl_up_ne (by omega), gl_up_ne (by omega), gl_up_ne (by omega)]
          exact ⟨fun _ => ⟨rfl, rfl⟩, rfl, rfl, rfl⟩
        have := ih (j + 1) (by omega) sh2 I2 L2 B2 (gl_u2 R2 (h + 2) j (some (h + 121 + j))) _ _ (some (.int (nI (j + 1)))) (show nc + 1 + 0 = 120 + 1 * (j + 1) by omega) (show ns + 1 + 0 = 50436 + 1 * (j + 1) by omega) (by rw [show 121 + (j + 1) = 121 + j + 1 by omega]; exact hN2) (by rw [show h + 121 + (j + 1) = h + 121 + j + 1 by omega]; exact hH2)
        rw [show h + 121 + (j + 1) = h + 121 + j + 1 by omega] at this
        exact this
  have l1 : ∀ k j : Nat, j + k = 6 → ∀ (sh1 : Nat → Nat × Nat) (I1 : Nat → Nat → Int32) (L1 : Nat → Nat → Int64) (B1 : Nat → Nat → Bool) (R1 : Nat → Nat → Option Nat) (nc ns : Nat) (x1 : Option Value), nc = 6 + 19 * j → ns = 174 + 8377 * j → gl_nwP h (7 + 19 * j) sh sh1 I I1 L L1 B B1 R R1 → gl_HP (h + 7 + 19 * j) sh1 R1 h j 0 0 0 0 → gl_J κ nc ns ((h + 7 + 19 * j, sh1), I1, L1, B1, R1) 59 [some (.ref h), some (.int (nI j))] [] := by
    intro k
    induction k with
    | zero =>
      intro j hj sh1 I1 L1 B1 R1 nc ns x1 hnc hns hN hP
      obtain rfl : j = 6 := by omega
      refine j_iload_n C dX1_init_59 rfl 60 rfl ?_
      refine j_bipush (v := nI 6) C dX1_init_60 (by decide) 62 rfl ?_
      refine n_icmp_ge C 84 65 dX1_init_62 (by decide) rfl (by omega) (by omega) (fun c_62 => ?_) (fun c_62 => ?_)
      · refine j_iconst (v := nI 0) C dX1_init_84 (by decide) 85 rfl ?_
        refine j_istore_n C dX1_init_85 (Nat.le_of_ble_eq_true rfl) (by rw [hnL]; decide) rfl 86 rfl ?_
        exact l2 16 0 (by omega) _ _ _ _ _ _ _ none hnc hns hN hP
      · exact absurd c_62 (by omega)
    | succ k ih =>
      intro j hj sh1 I1 L1 B1 R1 nc ns x1 hnc hns hN hP
      refine j_iload_n C dX1_init_59 rfl 60 rfl ?_
      refine j_bipush (v := nI 6) C dX1_init_60 (by decide) 62 rfl ?_
      refine n_icmp_ge C 84 65 dX1_init_62 (by decide) rfl (by omega) (by omega) (fun c_62 => ?_) (fun c_62 => ?_)
      · exact absurd c_62 (by omega)
      · refine j_aload_n C dX1_init_65 rfl 66 rfl ?_
        refine gf_X1_11 C hP.1.1 hP.1.2.2.2.2.2.2.2.1 dX1_init_66 69 rfl ?_
        refine j_iload_n C dX1_init_69 rfl 70 rfl ?_
        refine nw_X1_9 C (by omega) (by omega) dX1_init_70 73 rfl ?_
        refine j_dup C dX1_init_73 rfl 74 rfl ?_
        refine j_cv C (cs_X1_42 C (ct_X2_new (d := h + 7 + 19 * j) (h_ - 1) (by omega) gl_up_eq gl_up_eq gl_up_eq gl_up_eq) rfl (by omega) (by omega) (by omega) rfl (Nat.le_of_ble_eq_true rfl) dX1_init_74) 77 rfl ?_
        rintro _ ⟨sh2, I2, L2, B2, R2, rfl, hw, hLL⟩
        refine j_aast (t := 3) (ci := 2) C (by decide) (fun _ => rfl) rfl (by rw [show ((h + 7 + 19 * j + 19, sh2) : gl_Lay).2 (h + 1) = sh2 (h + 1) from rfl, (hw.1 _ (by omega)).1, gl_up_ne (by omega)]; exact hP.1.2.1) (x := 0) hLL.o (by omega) (by decide) dX1_init_77 78 rfl ?_
        refine n_iinc C dX1_init_78 rfl (by rw [hnL]; decide) rfl 81 rfl ?_
        refine j_goto (tgt := 59) C dX1_init_81 (by decide) ?_
        have hw1 := (gl_nwP.one (N := h + 7 + 19 * j) (q := (10, 0)) (sh := sh1) (I := I1) (L := L1) (B := B1) (R := R1) (r := fun _ => none))
        have hH : gl_HP (h + 7 + 19 * j + 19) sh2 (gl_u2 R2 (h + 1) j (some (h + 7 + 19 * j))) h j 0 0 0 0 := by
          refine hP.st (M := h + 7 + 19 * j) (i := 1) (k := j) (fun x q1 q2 => by rw [(hw.1 x q2).1, gl_up_ne (by omega)]) (fun x y q1 q2 q3 => ?_) (by omega) (by omega) (by omega) (by omega) (by omega) (by omega) (by omega)
          by_cases hx : x = h + 1
          · subst hx
            rw [gl_u2_eq, gl_up_ne (by omega), (hw.1 _ q2).2.2.2.2, gl_up_ne (by omega)]
          · rw [gl_u2_ne hx, (hw.1 _ q2).2.2.2.2, gl_up_ne (by omega)]
        have hH2 : gl_HP (h + 7 + 19 * j + 19) sh2 (gl_u2 R2 (h + 1) j (some (h + 7 + 19 * j))) h (j + 1) 0 0 0 0 := by
          obtain ⟨p0, p1, p2, p3, p4, p5⟩ := hH
          refine ⟨p0, ?_, p2, p3, p4, p5⟩
          intro k q
          rcases Nat.lt_or_ge k j with q2 | q2
          · exact p1 k q2
          · obtain rfl : k = j := by omega
            exact ⟨by rw [gl_u2_eq, gl_up_eq], hLL.of_eq (fun x _ _ => rfl) (fun x y q1 q2 => by rw [gl_u2_ne (by omega)])⟩
        have hN2 : gl_nwP h (7 + 19 * j + 19) sh sh2 I I2 L L2 B B2 R (gl_u2 R2 (h + 1) j (some (h + 7 + 19 * j))) := by
          refine gl_nwP.setR (hN.tr (m := 19) (fun c hc => ?_) (fun c q1 q2 => hw.2 c (by omega) (by omega))) (by omega)
          obtain ⟨w1, w2, w3, w4, w5⟩ := hw.1 c (by omega)
          rw [w1, w2, w3, w4, w5, gl_up_ne (by omega), gl_up_ne (by omega), gl_up_ne (by omega), gl_up_ne (by omega), gl_up_ne (by omega)]
          exact ⟨fun _ => ⟨rfl, rfl⟩, rfl, rfl, rfl⟩
        have := ih (j + 1) (by omega) sh2 I2 L2 B2 (gl_u2 R2 (h + 1) j (some (h + 7 + 19 * j))) _ _ (some (.int (nI (j + 1)))) (show nc + 1 + 18 = 6 + 19 * (j + 1) by omega) (show ns + 11 + 8366 = 174 + 8377 * (j + 1) by omega) (by rw [show 7 + 19 * (j + 1) = 7 + 19 * j + 19 by omega]; exact hN2) (by rw [show h + 7 + 19 * (j + 1) = h + 7 + 19 * j + 19 by omega]; exact hH2)
        rw [show h + 7 + 19 * (j + 1) = h + 7 + 19 * j + 19 by omega] at this
        exact this
  refine j_aload_n C dX1_init_0 rfl 1 rfl ?_
  refine j_objInit C q98 q91 q92 (by omega) (Nat.le_of_ble_eq_true rfl) dX1_init_1 4 rfl ?_
  refine j_aload_n C dX1_init_4 rfl 5 rfl ?_
  refine j_bipush (v := nI 6) C dX1_init_5 (by decide) 7 rfl ?_
  refine j_newarrR (t := 3) C (by decide) (fun _ => rfl) C.ev.2.1.2.1 q99 (by decide) (by omega) (by omega) dX1_init_7 10 rfl ?_
  rw [show h + 1 + 1 = h + 2 from rfl]
  refine pf_X1_11 C hini (x := 0) (by simp (disch := omega) only [gl_up_ne, hk]) dX1_init_10 13 rfl ?_
  refine j_aload_n C dX1_init_13 rfl 14 rfl ?_
  refine j_bipush (v := nI 16) C dX1_init_14 (by decide) 16 rfl ?_
  refine j_newarrR (t := 4) C (by decide) (fun _ => rfl) C.ev.2.1.2.2.1 q101 (by decide) (by omega) (by omega) dX1_init_16 19 rfl ?_
  rw [show h + 2 + 1 = h + 3 from rfl]
  refine pf_X1_19 C hini (x := 0) (by simp (disch := omega) only [gl_up_ne, hk]) dX1_init_19 22 rfl ?_
  refine j_aload_n C dX1_init_22 rfl 23 rfl ?_
  refine j_bipush (v := nI 12) C dX1_init_23 (by decide) 25 rfl ?_
  refine j_newarrR (t := 5) C (by decide) (fun _ => rfl) C.ev.2.1.2.2.2.1 q103 (by decide) (by omega) (by omega) dX1_init_25 28 rfl ?_
  rw [show h + 3 + 1 = h + 4 from rfl]
  refine pf_X1_25 C hini (x := 0) (by simp (disch := omega) only [gl_up_ne, hk]) dX1_init_28 31 rfl ?_
  refine j_aload_n C dX1_init_31 rfl 32 rfl ?_
  refine j_bipush (v := nI 120) C dX1_init_32 (by decide) 34 rfl ?_
  refine j_newarrR (t := 5) C (by decide) (fun _ => rfl) C.ev.2.1.2.2.2.1 q103 (by decide) (by omega) (by omega) dX1_init_34 37 rfl ?_
  rw [show h + 4 + 1 = h + 5 from rfl]
  refine pf_X1_29 C hini (x := 0) (by simp (disch := omega) only [gl_up_ne, hk]) dX1_init_37 40 rfl ?_
  refine j_aload_n C dX1_init_40 rfl 41 rfl ?_
  refine j_bipush (v := nI 8) C dX1_init_41 (by decide) 43 rfl ?_
  refine j_newarrR (t := 6) C (by decide) (fun _ => rfl) C.ev.2.1.2.2.2.2.1 q105 (by decide) (by omega) (by omega) dX1_init_43 46 rfl ?_
  rw [show h + 5 + 1 = h + 6 from rfl]
  refine pf_X1_34 C hini (x := 0) (by simp (disch := omega) only [gl_up_ne, hk]) dX1_init_46 49 rfl ?_
  refine j_aload_n C dX1_init_49 rfl 50 rfl ?_
  refine j_bipush (v := nI 12) C dX1_init_50 (by decide) 52 rfl ?_
  refine j_newarrI C (by decide) (by omega) (by omega) dX1_init_52 54 rfl ?_
  rw [show h + 6 + 1 = h + 7 from rfl]
  refine pf_X1_38 C hini (x := 0) (by simp (disch := omega) only [gl_up_ne, hk]) dX1_init_54 57 rfl ?_
  refine j_iconst (v := nI 0) C dX1_init_57 (by decide) 58 rfl ?_
  refine j_istore_n C dX1_init_58 (Nat.le_of_ble_eq_true rfl) (by rw [hnL]; decide) rfl 59 rfl ?_
  exact l1 6 0 rfl _ _ _ _ _ _ _ none rfl rfl ⟨fun c hc => by refine ⟨?_, ?_, ?_, ?_, ?_⟩ <;> simp (disch := omega) only [gl_u2_ne, gl_up_ne], fun c h1 h2 => by
    have hq : c = h ∨ c = h + 1 ∨ c = h + 2 ∨ c = h + 3 ∨ c = h + 4 ∨ c = h + 5 ∨ c = h + 6 := by omega
    rcases hq with rfl | rfl | rfl | rfl | rfl | rfl | rfl <;> refine ⟨?_, ?_, ?_⟩ <;> simp (disch := omega) only [gl_up_eq, gl_up_ne, hI, hLz, hB]⟩ ⟨⟨by simp (disch := omega) only [gl_u2_eq, gl_u2_ne, gl_up_eq, gl_up_ne, hk], by simp (disch := omega) only [gl_u2_eq, gl_u2_ne, gl_up_eq, gl_up_ne, hk], by simp (disch := omega) only [gl_u2_eq, gl_u2_ne, gl_up_eq, gl_up_ne, hk], by simp (disch := omega) only [gl_u2_eq, gl_u2_ne, gl_up_eq, gl_up_ne, hk], by simp (disch := omega) only [gl_u2_eq, gl_u2_ne, gl_up_eq, gl_up_ne, hk], by simp (disch := omega) only [gl_u2_eq, gl_u2_ne, gl_up_eq, gl_up_ne, hk], by simp (disch := omega) only [gl_u2_eq, gl_u2_ne, gl_up_eq, gl_up_ne, hk], by simp (disch := omega) only [gl_u2_eq, gl_u2_ne, gl_up_eq, gl_up_ne, hk], by simp (disch := omega) only [gl_u2_eq, gl_u2_ne, gl_up_eq, gl_up_ne, hk], by simp (disch := omega) only [gl_u2_eq, gl_u2_ne, gl_up_eq, gl_up_ne, hk], by simp (disch := omega) only [gl_u2_eq, gl_u2_ne, gl_up_eq, gl_up_ne, hk], by simp (disch := omega) only [gl_u2_eq, gl_u2_ne, gl_up_eq, gl_up_ne, hk], by simp (disch := omega) only [gl_u2_eq, gl_u2_ne, gl_up_eq, gl_up_ne, hk]⟩, fun k q => absurd q (by omega), fun k q => absurd q (by omega), fun k q => absurd q (by omega), fun k q => absurd q (by omega), fun k q => absurd q (by omega)⟩
