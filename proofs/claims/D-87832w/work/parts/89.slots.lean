/-! MODULE GlassLog, slots asked: proofAt, proof, drop, step, bend (by gen89.py) -/
set_option maxRecDepth 100000
def gl_ci : Nat → Nat
  | 1 => 11
  | 2 => 12
  | 3 => 13
  | 4 => 14
  | _ => 10
theorem j_astoreN {κ : gl_Kap} {own : String} {cc : ByteArray} {rm : Room} {ret : Option FieldType} {nc ns pc : Nat} {S : gl_Sto} {ls : List (Option Value)} {st : List Value} (C : gl_Cx κ own cc rm ret) {i : Nat} (d : decode cc pc = .ok (.astore i, 2)) (hi : i < ls.length) (hL : i < gl_nL κ) (hk : gl_lok ls i = true) (n' : Nat) (hn : pc + 2 = n') (k : gl_J κ nc ns S n' (ls.set i (some .null)) st) : gl_J κ nc ns S pc ls (.null :: st) := by
  subst hn
  intro ad H locs la hW hS hX ho hs hl
  exact lv_astoreN C.ex C.bt d hl hL rfl (fun la' h' => k ad H locs la' hW hS hX (gl_okl_set ho trivial) (gl_ok1 hs) (gl_l_set (v := .null) hi hk h'))
/-- what the slots hold: kind, labels, numbers, entries -/
def gl_gS (Λ : gl_Lay) (I : Nat → Nat → Int32) (L : Nat → Nat → Int64) (R : Nat → Nat → Option Nat) (h : Nat) (kd p st kl vl : Nat → Nat) (v : Nat → Nat → Int32) (n8 m : Nat → Nat) (ks : Nat → Nat → Int32) (vs : Nat → Nat → Int64) : Prop := ∀ s, s < 16 → kd s ≤ 5 ∧ (kd s = 0 → R (h + 121 + s) 0 = none) ∧ (kd s ≠ 0 → R (h + 121 + s) 0 = some (p s) ∧ gl_pf Λ I L R (p s) (st s) (kl s) (vl s) (gl_ci (kd s)) (v s) (n8 s) (I (st s)) (m s) (ks s) (vs s))
/-- what a proof tells -/
def gl_pv (kd : Nat) (v : Nat → Int32) (m : Nat) (ks : Nat → Int32) : Nat → Int32
  | 0 => nI kd
  | 1 => v 3
  | 2 => v 0
  | 3 => v 1
  | 4 => v 2
  | 5 => if kd = 1 ∨ kd = 5 then (if m = 0 then nI 0 else ks 0) else if kd = 3 ∨ kd = 4 then v 5 else nI 0
  | 6 => if kd = 3 ∨ kd = 4 then v 6 else nI 0
  | _ => if kd = 4 then v 7 else nI 0
set_option maxHeartbeats 4000000 in
set_option maxRecDepth 100000 in
theorem ct_X0_proofAt {l : Launch} {δ : gl_Del} {Λ : gl_Lay} {I : Nat → Nat → Int32} {L : Nat → Nat → Int64} {B : Nat → Nat → Bool} {R : Nat → Nat → Option Nat} {kd p st kl vl : Nat → Nat} {v : Nat → Nat → Int32} {n8 m : Nat → Nat} {ks : Nat → Nat → Int32} {vs : Nat → Nat → Int64} {x : Int32} (h : Nat) (hh : 3 ≤ h) (hG : gl_GL Λ R) (P : gl_gS Λ I L R 1 kd p st kl vl v n8 m ks vs) : gl_Ct l δ yX0_proofAt (ws_ yX0_proofAt cX0_proofAt 2 ((some (FieldType.object "GlassLog$Proof")))) (gl_rm h 0 0) 0 0 [.ref 0, .int x] (Λ, I, L, B, R) (gl_Qr fun o S => o = (if gl_in x 16 = true then R (1 + 121 + x.toNatClampNeg) 0 else none) ∧ S = (Λ, I, L, B, R)) := by
  refine gl_of (by decide) (Nat.le_of_ble_eq_true rfl) rfl ?_
  intro κ C hQ hlκ hδκ hnL hini
  change gl_Cx κ RX0 _ _ _ at C
  refine j_iload_n C dX0_proofAt_0 rfl 1 rfl ?_
  refine j_ci C (cs_X0_224 C (ct_X0_isSlot (h - 1) (by omega)) rfl (by omega) (by omega) (by omega) rfl (Nat.le_of_ble_eq_true rfl) dX0_proofAt_1) 4 rfl ?_
  rintro _ _ ⟨rfl, rfl⟩
  refine b_if_eq C 25 7 dX0_proofAt_4 (by decide) rfl (fun c_4 => ?_) (fun c_4 => ?_)
  · refine j_null C dX0_proofAt_25 26 rfl ?_
    exact j_aretN C (Or.inl ⟨_, rfl⟩) hQ ⟨by rw [if_neg (by rw [c_4]; decide)], rfl⟩ (by omega) (by omega) dX0_proofAt_26
  · obtain ⟨s, hs, rfl⟩ := (gl_in_iff (by decide)).mp c_4
    have hcs : (nI s).toNatClampNeg = s := nI_clamp (by omega)
    refine j_aload_n C dX0_proofAt_7 rfl 8 rfl ?_
    refine gf_X0_12 C hG.o hG.r0 dX0_proofAt_8 11 rfl ?_
    refine gf_X0_193 C hG.hs.o hG.hs.r1 dX0_proofAt_11 14 rfl ?_
    refine j_iload_n C dX0_proofAt_14 rfl 15 rfl ?_
    refine j_aald C (by decide) hG.hs.k2 (by omega) (by decide) dX0_proofAt_15 16 rfl ?_
    rw [hG.hs.sr s (by omega)]
    change gl_J _ _ _ _ _ _ (Value.ref _ :: _)
    refine gq_X0_197 C (hG.hs.sl s hs) dX0_proofAt_16 19 rfl ?_
    obtain ⟨p1, p2, p3⟩ := P s hs
    rcases (show kd s = 0 ∨ kd s = 1 ∨ kd s = 2 ∨ kd s = 3 ∨ kd s = 4 ∨ kd s = 5 by omega) with hkd | hkd | hkd | hkd | hkd | hkd
    · have hR := p2 hkd
      rw [hR]
      change gl_J _ _ _ _ _ _ (Value.null :: _)
      refine j_castN C dX0_proofAt_19 22 rfl ?_
      refine j_goto (tgt := 26) C dX0_proofAt_22 (by decide) ?_
      exact j_aretN C (Or.inl ⟨_, rfl⟩) hQ ⟨by rw [if_pos c_4, hcs, hR], rfl⟩ (by omega) (by omega) dX0_proofAt_26
    · obtain ⟨hR, hP⟩ := p3 (by omega)
      rw [hkd] at hP
      have hP : gl_pf _ I L R (p s) (st s) (kl s) (vl s) 11 (v s) (n8 s) (I (st s)) (m s) (ks s) (vs s) := hP
      rw [hR]
      change gl_J _ _ _ _ _ _ (Value.ref _ :: _)
      refine j_cast C (ci := 11) rfl hP.1 q771 q1704 dX0_proofAt_19 22 rfl ?_
      refine j_goto (tgt := 26) C dX0_proofAt_22 (by decide) ?_
      exact j_aret C (Or.inl ⟨_, rfl⟩) hQ ⟨by rw [if_pos c_4, hcs, hR], rfl⟩ (by omega) (by omega) dX0_proofAt_26
    · obtain ⟨hR, hP⟩ := p3 (by omega)
      rw [hkd] at hP
      have hP : gl_pf _ I L R (p s) (st s) (kl s) (vl s) 12 (v s) (n8 s) (I (st s)) (m s) (ks s) (vs s) := hP
      rw [hR]
      change gl_J _ _ _ _ _ _ (Value.ref _ :: _)
      refine j_cast C (ci := 12) rfl hP.1 q771 q1701 dX0_proofAt_19 22 rfl ?_
      refine j_goto (tgt := 26) C dX0_proofAt_22 (by decide) ?_
      exact j_aret C (Or.inl ⟨_, rfl⟩) hQ ⟨by rw [if_pos c_4, hcs, hR], rfl⟩ (by omega) (by omega) dX0_proofAt_26
    · obtain ⟨hR, hP⟩ := p3 (by omega)
      rw [hkd] at hP
      have hP : gl_pf _ I L R (p s) (st s) (kl s) (vl s) 13 (v s) (n8 s) (I (st s)) (m s) (ks s) (vs s) := hP
      rw [hR]
      change gl_J _ _ _ _ _ _ (Value.ref _ :: _)
      refine j_cast C (ci := 13) rfl hP.1 q771 q1702 dX0_proofAt_19 22 rfl ?_
      refine j_goto (tgt := 26) C dX0_proofAt_22 (by decide) ?_
      exact j_aret C (Or.inl ⟨_, rfl⟩) hQ ⟨by rw [if_pos c_4, hcs, hR], rfl⟩ (by omega) (by omega) dX0_proofAt_26
    · obtain ⟨hR, hP⟩ := p3 (by omega)
      rw [hkd] at hP
      have hP : gl_pf _ I L R (p s) (st s) (kl s) (vl s) 14 (v s) (n8 s) (I (st s)) (m s) (ks s) (vs s) := hP
      rw [hR]
      change gl_J _ _ _ _ _ _ (Value.ref _ :: _)
      refine j_cast C (ci := 14) rfl hP.1 q771 q1700 dX0_proofAt_19 22 rfl ?_
      refine j_goto (tgt := 26) C dX0_proofAt_22 (by decide) ?_
      exact j_aret C (Or.inl ⟨_, rfl⟩) hQ ⟨by rw [if_pos c_4, hcs, hR], rfl⟩ (by omega) (by omega) dX0_proofAt_26
    · obtain ⟨hR, hP⟩ := p3 (by omega)
      rw [hkd] at hP
      have hP : gl_pf _ I L R (p s) (st s) (kl s) (vl s) 10 (v s) (n8 s) (I (st s)) (m s) (ks s) (vs s) := hP
      rw [hR]
      change gl_J _ _ _ _ _ _ (Value.ref _ :: _)
      refine j_cast C (ci := 10) rfl hP.1 q771 q1703 dX0_proofAt_19 22 rfl ?_
      refine j_goto (tgt := 26) C dX0_proofAt_22 (by decide) ?_
      exact j_aret C (Or.inl ⟨_, rfl⟩) hQ ⟨by rw [if_pos c_4, hcs, hR], rfl⟩ (by omega) (by omega) dX0_proofAt_26
theorem gl_ifm {m : Nat} {a b : Int32} (h : 0 < m → a = b) : (if m = 0 then nI 0 else a) = (if m = 0 then nI 0 else b) := by
  rcases Nat.eq_zero_or_pos m with z | z
  · rw [if_pos z, if_pos z]
  · rw [if_neg (by omega), if_neg (by omega), h z]
theorem gl_w7 {w : Int32} (h : gl_in w 8 = true) (ho : w.toInt < 0 ∨ ((7 : Nat) : Int) - 1 < w.toInt) : w = nI 7 := by
  obtain ⟨k, hk, rfl⟩ := (gl_in_iff (by decide)).mp h
  rcases Nat.lt_or_ge k 7 with z | z
  · exact absurd rfl (gl_out (n := 7) (by decide) z ho)
  · rw [show k = 7 by omega]
set_option maxHeartbeats 4000000 in
set_option maxRecDepth 100000 in
theorem ct_X0_proof {l : Launch} {δ : gl_Del} {Λ : gl_Lay} {I : Nat → Nat → Int32} {L : Nat → Nat → Int64} {B : Nat → Nat → Bool} {R : Nat → Nat → Option Nat} {kd p st kl vl : Nat → Nat} {v : Nat → Nat → Int32} {n8 m : Nat → Nat} {ks : Nat → Nat → Int32} {vs : Nat → Nat → Int64} {x w : Int32} (h : Nat) (hh : 4 ≤ h) (hG : gl_GL Λ R) (P : gl_gS Λ I L R 1 kd p st kl vl v n8 m ks vs) (hmb : ∀ s, s < 16 → m s < 2 ^ 24) : gl_Ct l δ yX0_proof (ws_ yX0_proof cX0_proof 4 ((some FieldType.int))) (gl_rm h 0 0) 0 0 [.ref 0, .int x, .int w] (Λ, I, L, B, R) (gl_Qi fun r S => r = (if gl_in x 16 = true ∧ gl_in w 8 = true then (if kd (x.toNatClampNeg) = 0 then nI 0 else gl_pv (kd (x.toNatClampNeg)) (v (x.toNatClampNeg)) (m (x.toNatClampNeg)) (ks (x.toNatClampNeg)) w.toNatClampNeg) else -1) ∧ S = (Λ, I, L, B, R)) := by
  refine gl_of (by decide) (Nat.le_of_ble_eq_true rfl) rfl ?_
  intro κ C hQ hlκ hδκ hnL hini
  change gl_Cx κ RX0 _ _ _ at C
  refine j_iload_n C dX0_proof_0 rfl 1 rfl ?_
  refine j_ci C (cs_X0_224 C (ct_X0_isSlot (h - 1) (by omega)) rfl (by omega) (by omega) (by omega) rfl (Nat.le_of_ble_eq_true rfl) dX0_proof_1) 4 rfl ?_
  rintro _ _ ⟨rfl, rfl⟩
  refine b_if_eq C 19 7 dX0_proof_4 (by decide) rfl (fun c_4 => ?_) (fun c_4 => ?_)
  · refine j_iconst (v := -1) C dX0_proof_19 (by decide) 20 rfl ?_
    exact j_iret C hQ ⟨by rw [if_neg (fun q => by rw [c_4] at q; exact absurd q.1 (by decide))], rfl⟩ (by omega) (by omega) dX0_proof_20
  · refine j_iload_n C dX0_proof_7 rfl 8 rfl ?_
    refine j_i2l C dX0_proof_8 rfl 9 rfl ?_
    refine j_lconst (v := lN 0) C dX0_proof_9 (by decide) 10 rfl ?_
    refine j_ldc2 C q518 dX0_proof_10 13 rfl ?_
    rw [show (7 : Int64) = lN 7 from rfl]
    refine j_ci C (cs_X0_57 C (ct_X0_in (h - 1) (by omega)) rfl (by omega) (by omega) (by omega) rfl (Nat.le_of_ble_eq_true rfl) dX0_proof_13) 16 rfl ?_
    rintro _ _ ⟨rfl, rfl⟩
    rw [gl_il_c (n := 7) (by decide), show 7 + 1 = 8 from rfl]
    refine b_if_ne C 21 19 dX0_proof_16 (by decide) rfl (fun c_16 => ?_) (fun c_16 => ?_)
    · obtain ⟨s, hs, rfl⟩ := (gl_in_iff (by decide)).mp c_4
      have hcs : (nI s).toNatClampNeg = s := nI_clamp (by omega)
      refine j_aload_n C dX0_proof_21 rfl 22 rfl ?_
      refine j_iload_n C dX0_proof_22 rfl 23 rfl ?_
      refine j_cr C (cs_X0_273 C (ct_X0_proofAt (h - 1) (by omega) hG P) hG.o rfl (by omega) (by omega) (by omega) rfl (Nat.le_of_ble_eq_true rfl) dX0_proof_23) 26 rfl ?_
      rintro _ _ ⟨rfl, rfl⟩
      obtain ⟨p1, p2, p3⟩ := P s hs
      rcases (show kd s = 0 ∨ kd s = 1 ∨ kd s = 2 ∨ kd s = 3 ∨ kd s = 4 ∨ kd s = 5 by omega) with hkd | hkd | hkd | hkd | hkd | hkd
      · have hR := p2 hkd
        rw [if_pos c_4, hcs, hR]
        change gl_J _ _ _ _ _ _ (Value.null :: _)
        refine j_astore_nN C dX0_proof_26 (Nat.le_of_ble_eq_true rfl) (by rw [hnL]; decide) rfl 27 rfl ?_
        refine j_aload_nN C dX0_proof_27 rfl 28 rfl ?_
        refine j_ifnonnullN C dX0_proof_28 31 rfl ?_
        refine j_iconst (v := nI 0) C dX0_proof_31 (by decide) 32 rfl ?_
        exact j_iret C hQ ⟨by rw [if_pos (And.intro c_4 c_16), hcs]; exact (if_pos hkd).symm, rfl⟩ (by omega) (by omega) dX0_proof_32
      · obtain ⟨hR, hP⟩ := p3 (by omega)
        rw [hkd] at hP
        have hP : gl_pf _ I L R (p s) (st s) (kl s) (vl s) 11 (v s) (n8 s) (I (st s)) (m s) (ks s) (vs s) := hP
        rw [if_pos c_4, hcs, hR]
        change gl_J _ _ _ _ _ _ (Value.ref _ :: _)
        have h6 := hP.2.2.2.2.2 (by decide)
        refine j_astore_n C dX0_proof_26 (Nat.le_of_ble_eq_true rfl) (by rw [hnL]; decide) rfl 27 rfl ?_
        refine j_aload_n C dX0_proof_27 rfl 28 rfl ?_
        refine j_ifnonnull C 33 dX0_proof_28 (by decide) ?_
        refine j_iload_n C dX0_proof_33 rfl 34 rfl ?_
        rcases gl_sw w 7 (by decide) with ⟨k_, hk_, rfl⟩ | ho_
        · rcases (show k_ = 0 ∨ k_ = 1 ∨ k_ = 2 ∨ k_ = 3 ∨ k_ = 4 ∨ k_ = 5 ∨ k_ = 6 by omega) with rfl | rfl | rfl | rfl | rfl | rfl | rfl
          · refine j_tableIn C 76 dX0_proof_34 (by decide) (by decide) rfl (by decide) ?_
            refine j_aload_n C dX0_proof_76 rfl 77 rfl ?_
            refine j_ci C (cs_X0_277_11 C (ct_X12_kind (h - 1) (by omega)) (xx := 0) hP.1 rfl (by omega) (by omega) (by omega) rfl (Nat.le_of_ble_eq_true rfl) dX0_proof_77) 80 rfl ?_
            rintro _ _ ⟨rfl, rfl⟩
            exact j_iret C hQ ⟨by rw [if_pos (And.intro c_4 c_16), hcs, if_neg (show ¬ kd s = 0 by omega), show (nI 0 : Int32).toNatClampNeg = 0 from rfl, gl_pv, hkd], rfl⟩ (by omega) (by omega) dX0_proof_80
          · refine j_tableIn C 81 dX0_proof_34 (by decide) (by decide) rfl (by decide) ?_
            refine j_aload_n C dX0_proof_81 rfl 82 rfl ?_
            refine gf_X0_183_11 C (x := 0) hP.1 dX0_proof_82 85 rfl ?_
            rw [hP.2.2.2.1 3 (Or.inl (by decide))]
            exact j_iret C hQ ⟨by rw [if_pos (And.intro c_4 c_16), hcs, if_neg (show ¬ kd s = 0 by omega), show (nI 1 : Int32).toNatClampNeg = 1 from rfl, gl_pv], rfl⟩ (by omega) (by omega) dX0_proof_85
          · refine j_tableIn C 86 dX0_proof_34 (by decide) (by decide) rfl (by decide) ?_
            refine j_aload_n C dX0_proof_86 rfl 87 rfl ?_
            refine gf_X0_174_11 C (x := 0) hP.1 dX0_proof_87 90 rfl ?_
            rw [hP.2.2.2.1 0 (Or.inl (by decide))]
            exact j_iret C hQ ⟨by rw [if_pos (And.intro c_4 c_16), hcs, if_neg (show ¬ kd s = 0 by omega), show (nI 2 : Int32).toNatClampNeg = 2 from rfl, gl_pv], rfl⟩ (by omega) (by omega) dX0_proof_90
          · refine j_tableIn C 91 dX0_proof_34 (by decide) (by decide) rfl (by decide) ?_
            refine j_aload_n C dX0_proof_91 rfl 92 rfl ?_
            refine gf_X0_177_11 C (x := 0) hP.1 dX0_proof_92 95 rfl ?_
            rw [hP.2.2.2.1 1 (Or.inl (by decide))]
            exact j_iret C hQ ⟨by rw [if_pos (And.intro c_4 c_16), hcs, if_neg (show ¬ kd s = 0 by omega), show (nI 3 : Int32).toNatClampNeg = 3 from rfl, gl_pv], rfl⟩ (by omega) (by omega) dX0_proof_95
          · refine j_tableIn C 96 dX0_proof_34 (by decide) (by decide) rfl (by decide) ?_
            refine j_aload_n C dX0_proof_96 rfl 97 rfl ?_
            refine gf_X0_180_11 C (x := 0) hP.1 dX0_proof_97 100 rfl ?_
            rw [hP.2.2.2.1 2 (Or.inl (by decide))]
            exact j_iret C hQ ⟨by rw [if_pos (And.intro c_4 c_16), hcs, if_neg (show ¬ kd s = 0 by omega), show (nI 4 : Int32).toNatClampNeg = 4 from rfl, gl_pv], rfl⟩ (by omega) (by omega) dX0_proof_100
          · refine j_tableIn C 101 dX0_proof_34 (by decide) (by decide) rfl (by decide) ?_
            refine j_aload_n C dX0_proof_101 rfl 102 rfl ?_
            refine j_ci C (cs_X0_281_11 C (ct_X11_key_11 (p := p s) (x := 0) (kl := kl s) (m := m s) (h - 1) (by omega) hP.1 h6.1 h6.2.2.1 (by have := hmb s hs; omega)) (xx := 0) hP.1 rfl (by omega) (by omega) (by omega) rfl (Nat.le_of_ble_eq_true rfl) dX0_proof_102) 105 rfl ?_
            rintro _ _ ⟨rfl, rfl⟩
            exact j_iret C hQ ⟨by rw [if_pos (And.intro c_4 c_16), hcs, if_neg (show ¬ kd s = 0 by omega), show (nI 5 : Int32).toNatClampNeg = 5 from rfl, gl_pv, hkd]; rw [if_pos (show ((1 : Nat) = 1 ∨ (1 : Nat) = 5) by decide)]; exact gl_ifm (fun z => (h6.2.2.2.2.2 0 z).1), rfl⟩ (by omega) (by omega) dX0_proof_105
          · refine j_tableIn C 106 dX0_proof_34 (by decide) (by decide) rfl (by decide) ?_
            refine j_aload_n C dX0_proof_106 rfl 107 rfl ?_
            refine j_ci C (cs_X0_283_11 C (ct_X10_latest (h - 1) (by omega)) (xx := 0) hP.1 rfl (by omega) (by omega) (by omega) rfl (Nat.le_of_ble_eq_true rfl) dX0_proof_107) 110 rfl ?_
            rintro _ _ ⟨rfl, rfl⟩
            exact j_iret C hQ ⟨by rw [if_pos (And.intro c_4 c_16), hcs, if_neg (show ¬ kd s = 0 by omega), show (nI 6 : Int32).toNatClampNeg = 6 from rfl, gl_pv, hkd]; rw [if_neg (by decide)], rfl⟩ (by omega) (by omega) dX0_proof_110
        · refine j_tableOut C 111 dX0_proof_34 (by omega) (by decide) ?_
          refine j_aload_n C dX0_proof_111 rfl 112 rfl ?_
          refine j_ci C (cs_X0_285_11 C (ct_X10_other (h - 1) (by omega)) (xx := 0) hP.1 rfl (by omega) (by omega) (by omega) rfl (Nat.le_of_ble_eq_true rfl) dX0_proof_112) 115 rfl ?_
          rintro _ _ ⟨rfl, rfl⟩
          exact j_iret C hQ ⟨by have e7 := gl_w7 c_16 ho_; subst e7; rw [if_pos ⟨c_4, c_16⟩, hcs, if_neg (show ¬ kd s = 0 by omega)]; show _ = (if kd s = 4 then v s 7 else nI 0); rw [hkd]; rw [if_neg (by decide)], rfl⟩ (by omega) (by omega) dX0_proof_115
      · obtain ⟨hR, hP⟩ := p3 (by omega)
        rw [hkd] at hP
        have hP : gl_pf _ I L R (p s) (st s) (kl s) (vl s) 12 (v s) (n8 s) (I (st s)) (m s) (ks s) (vs s) := hP
        rw [if_pos c_4, hcs, hR]
        change gl_J _ _ _ _ _ _ (Value.ref _ :: _)
        refine j_astore_n C dX0_proof_26 (Nat.le_of_ble_eq_true rfl) (by rw [hnL]; decide) rfl 27 rfl ?_
        refine j_aload_n C dX0_proof_27 rfl 28 rfl ?_
        refine j_ifnonnull C 33 dX0_proof_28 (by decide) ?_
        refine j_iload_n C dX0_proof_33 rfl 34 rfl ?_
        rcases gl_sw w 7 (by decide) with ⟨k_, hk_, rfl⟩ | ho_
        · rcases (show k_ = 0 ∨ k_ = 1 ∨ k_ = 2 ∨ k_ = 3 ∨ k_ = 4 ∨ k_ = 5 ∨ k_ = 6 by omega) with rfl | rfl | rfl | rfl | rfl | rfl | rfl
          · refine j_tableIn C 76 dX0_proof_34 (by decide) (by decide) rfl (by decide) ?_
            refine j_aload_n C dX0_proof_76 rfl 77 rfl ?_
            refine j_ci C (cs_X0_277_12 C (ct_X13_kind (h - 1) (by omega)) (xx := 0) hP.1 rfl (by omega) (by omega) (by omega) rfl (Nat.le_of_ble_eq_true rfl) dX0_proof_77) 80 rfl ?_
            rintro _ _ ⟨rfl, rfl⟩
            exact j_iret C hQ ⟨by rw [if_pos (And.intro c_4 c_16), hcs, if_neg (show ¬ kd s = 0 by omega), show (nI 0 : Int32).toNatClampNeg = 0 from rfl, gl_pv, hkd], rfl⟩ (by omega) (by omega) dX0_proof_80
          · refine j_tableIn C 81 dX0_proof_34 (by decide) (by decide) rfl (by decide) ?_
            refine j_aload_n C dX0_proof_81 rfl 82 rfl ?_
            refine gf_X0_183_12 C (x := 0) hP.1 dX0_proof_82 85 rfl ?_
            rw [hP.2.2.2.1 3 (Or.inl (by decide))]
            exact j_iret C hQ ⟨by rw [if_pos (And.intro c_4 c_16), hcs, if_neg (show ¬ kd s = 0 by omega), show (nI 1 : Int32).toNatClampNeg = 1 from rfl, gl_pv], rfl⟩ (by omega) (by omega) dX0_proof_85
          · refine j_tableIn C 86 dX0_proof_34 (by decide) (by decide) rfl (by decide) ?_
            refine j_aload_n C dX0_proof_86 rfl 87 rfl ?_
            refine gf_X0_174_12 C (x := 0) hP.1 dX0_proof_87 90 rfl ?_
            rw [hP.2.2.2.1 0 (Or.inl (by decide))]
            exact j_iret C hQ ⟨by rw [if_pos (And.intro c_4 c_16), hcs, if_neg (show ¬ kd s = 0 by omega), show (nI 2 : Int32).toNatClampNeg = 2 from rfl, gl_pv], rfl⟩ (by omega) (by omega) dX0_proof_90
          · refine j_tableIn C 91 dX0_proof_34 (by decide) (by decide) rfl (by decide) ?_
            refine j_aload_n C dX0_proof_91 rfl 92 rfl ?_
            refine gf_X0_177_12 C (x := 0) hP.1 dX0_proof_92 95 rfl ?_
            rw [hP.2.2.2.1 1 (Or.inl (by decide))]
            exact j_iret C hQ ⟨by rw [if_pos (And.intro c_4 c_16), hcs, if_neg (show ¬ kd s = 0 by omega), show (nI 3 : Int32).toNatClampNeg = 3 from rfl, gl_pv], rfl⟩ (by omega) (by omega) dX0_proof_95
          · refine j_tableIn C 96 dX0_proof_34 (by decide) (by decide) rfl (by decide) ?_
            refine j_aload_n C dX0_proof_96 rfl 97 rfl ?_
            refine gf_X0_180_12 C (x := 0) hP.1 dX0_proof_97 100 rfl ?_
            rw [hP.2.2.2.1 2 (Or.inl (by decide))]
            exact j_iret C hQ ⟨by rw [if_pos (And.intro c_4 c_16), hcs, if_neg (show ¬ kd s = 0 by omega), show (nI 4 : Int32).toNatClampNeg = 4 from rfl, gl_pv], rfl⟩ (by omega) (by omega) dX0_proof_100
          · refine j_tableIn C 101 dX0_proof_34 (by decide) (by decide) rfl (by decide) ?_
            refine j_aload_n C dX0_proof_101 rfl 102 rfl ?_
            refine j_ci C (cs_X0_281_12 C (ct_X10_key (h - 1) (by omega)) (xx := 0) hP.1 rfl (by omega) (by omega) (by omega) rfl (Nat.le_of_ble_eq_true rfl) dX0_proof_102) 105 rfl ?_
            rintro _ _ ⟨rfl, rfl⟩
            exact j_iret C hQ ⟨by rw [if_pos (And.intro c_4 c_16), hcs, if_neg (show ¬ kd s = 0 by omega), show (nI 5 : Int32).toNatClampNeg = 5 from rfl, gl_pv, hkd]; rw [if_neg (by decide), if_neg (by decide)], rfl⟩ (by omega) (by omega) dX0_proof_105
          · refine j_tableIn C 106 dX0_proof_34 (by decide) (by decide) rfl (by decide) ?_
            refine j_aload_n C dX0_proof_106 rfl 107 rfl ?_
            refine j_ci C (cs_X0_283_12 C (ct_X10_latest (h - 1) (by omega)) (xx := 0) hP.1 rfl (by omega) (by omega) (by omega) rfl (Nat.le_of_ble_eq_true rfl) dX0_proof_107) 110 rfl ?_
            rintro _ _ ⟨rfl, rfl⟩
            exact j_iret C hQ ⟨by rw [if_pos (And.intro c_4 c_16), hcs, if_neg (show ¬ kd s = 0 by omega), show (nI 6 : Int32).toNatClampNeg = 6 from rfl, gl_pv, hkd]; rw [if_neg (by decide)], rfl⟩ (by omega) (by omega) dX0_proof_110
        · refine j_tableOut C 111 dX0_proof_34 (by omega) (by decide) ?_
          refine j_aload_n C dX0_proof_111 rfl 112 rfl ?_
          refine j_ci C (cs_X0_285_12 C (ct_X10_other (h - 1) (by omega)) (xx := 0) hP.1 rfl (by omega) (by omega) (by omega) rfl (Nat.le_of_ble_eq_true rfl) dX0_proof_112) 115 rfl ?_
          rintro _ _ ⟨rfl, rfl⟩
          exact j_iret C hQ ⟨by have e7 := gl_w7 c_16 ho_; subst e7; rw [if_pos ⟨c_4, c_16⟩, hcs, if_neg (show ¬ kd s = 0 by omega)]; show _ = (if kd s = 4 then v s 7 else nI 0); rw [hkd]; rw [if_neg (by decide)], rfl⟩ (by omega) (by omega) dX0_proof_115
      · obtain ⟨hR, hP⟩ := p3 (by omega)
        rw [hkd] at hP
        have hP : gl_pf _ I L R (p s) (st s) (kl s) (vl s) 13 (v s) (n8 s) (I (st s)) (m s) (ks s) (vs s) := hP
        rw [if_pos c_4, hcs, hR]
        change gl_J _ _ _ _ _ _ (Value.ref _ :: _)
        refine j_astore_n C dX0_proof_26 (Nat.le_of_ble_eq_true rfl) (by rw [hnL]; decide) rfl 27 rfl ?_
        refine j_aload_n C dX0_proof_27 rfl 28 rfl ?_
        refine j_ifnonnull C 33 dX0_proof_28 (by decide) ?_
        refine j_iload_n C dX0_proof_33 rfl 34 rfl ?_
        rcases gl_sw w 7 (by decide) with ⟨k_, hk_, rfl⟩ | ho_
        · rcases (show k_ = 0 ∨ k_ = 1 ∨ k_ = 2 ∨ k_ = 3 ∨ k_ = 4 ∨ k_ = 5 ∨ k_ = 6 by omega) with rfl | rfl | rfl | rfl | rfl | rfl | rfl
          · refine j_tableIn C 76 dX0_proof_34 (by decide) (by decide) rfl (by decide) ?_
            refine j_aload_n C dX0_proof_76 rfl 77 rfl ?_
            refine j_ci C (cs_X0_277_13 C (ct_X14_kind (h - 1) (by omega)) (xx := 0) hP.1 rfl (by omega) (by omega) (by omega) rfl (Nat.le_of_ble_eq_true rfl) dX0_proof_77) 80 rfl ?_
            rintro _ _ ⟨rfl, rfl⟩
            exact j_iret C hQ ⟨by rw [if_pos (And.intro c_4 c_16), hcs, if_neg (show ¬ kd s = 0 by omega), show (nI 0 : Int32).toNatClampNeg = 0 from rfl, gl_pv, hkd], rfl⟩ (by omega) (by omega) dX0_proof_80
          · refine j_tableIn C 81 dX0_proof_34 (by decide) (by decide) rfl (by decide) ?_
            refine j_aload_n C dX0_proof_81 rfl 82 rfl ?_
            refine gf_X0_183_13 C (x := 0) hP.1 dX0_proof_82 85 rfl ?_
            rw [hP.2.2.2.1 3 (Or.inl (by decide))]
            exact j_iret C hQ ⟨by rw [if_pos (And.intro c_4 c_16), hcs, if_neg (show ¬ kd s = 0 by omega), show (nI 1 : Int32).toNatClampNeg = 1 from rfl, gl_pv], rfl⟩ (by omega) (by omega) dX0_proof_85
          · refine j_tableIn C 86 dX0_proof_34 (by decide) (by decide) rfl (by decide) ?_
            refine j_aload_n C dX0_proof_86 rfl 87 rfl ?_
            refine gf_X0_174_13 C (x := 0) hP.1 dX0_proof_87 90 rfl ?_
            rw [hP.2.2.2.1 0 (Or.inl (by decide))]
            exact j_iret C hQ ⟨by rw [if_pos (And.intro c_4 c_16), hcs, if_neg (show ¬ kd s = 0 by omega), show (nI 2 : Int32).toNatClampNeg = 2 from rfl, gl_pv], rfl⟩ (by omega) (by omega) dX0_proof_90
          · refine j_tableIn C 91 dX0_proof_34 (by decide) (by decide) rfl (by decide) ?_
            refine j_aload_n C dX0_proof_91 rfl 92 rfl ?_
            refine gf_X0_177_13 C (x := 0) hP.1 dX0_proof_92 95 rfl ?_
            rw [hP.2.2.2.1 1 (Or.inl (by decide))]
            exact j_iret C hQ ⟨by rw [if_pos (And.intro c_4 c_16), hcs, if_neg (show ¬ kd s = 0 by omega), show (nI 3 : Int32).toNatClampNeg = 3 from rfl, gl_pv], rfl⟩ (by omega) (by omega) dX0_proof_95
          · refine j_tableIn C 96 dX0_proof_34 (by decide) (by decide) rfl (by decide) ?_
            refine j_aload_n C dX0_proof_96 rfl 97 rfl ?_
            refine gf_X0_180_13 C (x := 0) hP.1 dX0_proof_97 100 rfl ?_
            rw [hP.2.2.2.1 2 (Or.inl (by decide))]
            exact j_iret C hQ ⟨by rw [if_pos (And.intro c_4 c_16), hcs, if_neg (show ¬ kd s = 0 by omega), show (nI 4 : Int32).toNatClampNeg = 4 from rfl, gl_pv], rfl⟩ (by omega) (by omega) dX0_proof_100
          · refine j_tableIn C 101 dX0_proof_34 (by decide) (by decide) rfl (by decide) ?_
            refine j_aload_n C dX0_proof_101 rfl 102 rfl ?_
            refine j_ci C (cs_X0_281_13 C (ct_X14_key_13 (p := p s) (x := 0) (h - 1) (by omega) hP.1) (xx := 0) hP.1 rfl (by omega) (by omega) (by omega) rfl (Nat.le_of_ble_eq_true rfl) dX0_proof_102) 105 rfl ?_
            rintro _ _ ⟨rfl, rfl⟩
            rw [hP.2.2.2.1 5 (Or.inr (Or.inl ⟨by decide, by decide⟩))]
            exact j_iret C hQ ⟨by rw [if_pos (And.intro c_4 c_16), hcs, if_neg (show ¬ kd s = 0 by omega), show (nI 5 : Int32).toNatClampNeg = 5 from rfl, gl_pv, hkd]; rw [if_neg (by decide), if_pos (by decide)], rfl⟩ (by omega) (by omega) dX0_proof_105
          · refine j_tableIn C 106 dX0_proof_34 (by decide) (by decide) rfl (by decide) ?_
            refine j_aload_n C dX0_proof_106 rfl 107 rfl ?_
            refine j_ci C (cs_X0_283_13 C (ct_X14_latest_13 (p := p s) (x := 0) (h - 1) (by omega) hP.1) (xx := 0) hP.1 rfl (by omega) (by omega) (by omega) rfl (Nat.le_of_ble_eq_true rfl) dX0_proof_107) 110 rfl ?_
            rintro _ _ ⟨rfl, rfl⟩
            rw [hP.2.2.2.1 6 (Or.inr (Or.inl ⟨by decide, by decide⟩))]
            exact j_iret C hQ ⟨by rw [if_pos (And.intro c_4 c_16), hcs, if_neg (show ¬ kd s = 0 by omega), show (nI 6 : Int32).toNatClampNeg = 6 from rfl, gl_pv, hkd]; rw [if_pos (by decide)], rfl⟩ (by omega) (by omega) dX0_proof_110
        · refine j_tableOut C 111 dX0_proof_34 (by omega) (by decide) ?_
          refine j_aload_n C dX0_proof_111 rfl 112 rfl ?_
          refine j_ci C (cs_X0_285_13 C (ct_X10_other (h - 1) (by omega)) (xx := 0) hP.1 rfl (by omega) (by omega) (by omega) rfl (Nat.le_of_ble_eq_true rfl) dX0_proof_112) 115 rfl ?_
          rintro _ _ ⟨rfl, rfl⟩
          exact j_iret C hQ ⟨by have e7 := gl_w7 c_16 ho_; subst e7; rw [if_pos ⟨c_4, c_16⟩, hcs, if_neg (show ¬ kd s = 0 by omega)]; show _ = (if kd s = 4 then v s 7 else nI 0); rw [hkd]; rw [if_neg (by decide)], rfl⟩ (by omega) (by omega) dX0_proof_115
      · obtain ⟨hR, hP⟩ := p3 (by omega)
        rw [hkd] at hP
        have hP : gl_pf _ I L R (p s) (st s) (kl s) (vl s) 14 (v s) (n8 s) (I (st s)) (m s) (ks s) (vs s) := hP
        rw [if_pos c_4, hcs, hR]
        change gl_J _ _ _ _ _ _ (Value.ref _ :: _)
        refine j_astore_n C dX0_proof_26 (Nat.le_of_ble_eq_true rfl) (by rw [hnL]; decide) rfl 27 rfl ?_
        refine j_aload_n C dX0_proof_27 rfl 28 rfl ?_
        refine j_ifnonnull C 33 dX0_proof_28 (by decide) ?_
        refine j_iload_n C dX0_proof_33 rfl 34 rfl ?_
        rcases gl_sw w 7 (by decide) with ⟨k_, hk_, rfl⟩ | ho_
        · rcases (show k_ = 0 ∨ k_ = 1 ∨ k_ = 2 ∨ k_ = 3 ∨ k_ = 4 ∨ k_ = 5 ∨ k_ = 6 by omega) with rfl | rfl | rfl | rfl | rfl | rfl | rfl
          · refine j_tableIn C 76 dX0_proof_34 (by decide) (by decide) rfl (by decide) ?_
            refine j_aload_n C dX0_proof_76 rfl 77 rfl ?_
            refine j_ci C (cs_X0_277_14 C (ct_X15_kind (h - 1) (by omega)) (xx := 0) hP.1 rfl (by omega) (by omega) (by omega) rfl (Nat.le_of_ble_eq_true rfl) dX0_proof_77) 80 rfl ?_
            rintro _ _ ⟨rfl, rfl⟩
            exact j_iret C hQ ⟨by rw [if_pos (And.intro c_4 c_16), hcs, if_neg (show ¬ kd s = 0 by omega), show (nI 0 : Int32).toNatClampNeg = 0 from rfl, gl_pv, hkd], rfl⟩ (by omega) (by omega) dX0_proof_80
          · refine j_tableIn C 81 dX0_proof_34 (by decide) (by decide) rfl (by decide) ?_
            refine j_aload_n C dX0_proof_81 rfl 82 rfl ?_
            refine gf_X0_183_14 C (x := 0) hP.1 dX0_proof_82 85 rfl ?_
            rw [hP.2.2.2.1 3 (Or.inl (by decide))]
            exact j_iret C hQ ⟨by rw [if_pos (And.intro c_4 c_16), hcs, if_neg (show ¬ kd s = 0 by omega), show (nI 1 : Int32).toNatClampNeg = 1 from rfl, gl_pv], rfl⟩ (by omega) (by omega) dX0_proof_85
          · refine j_tableIn C 86 dX0_proof_34 (by decide) (by decide) rfl (by decide) ?_
            refine j_aload_n C dX0_proof_86 rfl 87 rfl ?_
            refine gf_X0_174_14 C (x := 0) hP.1 dX0_proof_87 90 rfl ?_
            rw [hP.2.2.2.1 0 (Or.inl (by decide))]
            exact j_iret C hQ ⟨by rw [if_pos (And.intro c_4 c_16), hcs, if_neg (show ¬ kd s = 0 by omega), show (nI 2 : Int32).toNatClampNeg = 2 from rfl, gl_pv], rfl⟩ (by omega) (by omega) dX0_proof_90
          · refine j_tableIn C 91 dX0_proof_34 (by decide) (by decide) rfl (by decide) ?_
            refine j_aload_n C dX0_proof_91 rfl 92 rfl ?_
            refine gf_X0_177_14 C (x := 0) hP.1 dX0_proof_92 95 rfl ?_
            rw [hP.2.2.2.1 1 (Or.inl (by decide))]
            exact j_iret C hQ ⟨by rw [if_pos (And.intro c_4 c_16), hcs, if_neg (show ¬ kd s = 0 by omega), show (nI 3 : Int32).toNatClampNeg = 3 from rfl, gl_pv], rfl⟩ (by omega) (by omega) dX0_proof_95
          · refine j_tableIn C 96 dX0_proof_34 (by decide) (by decide) rfl (by decide) ?_
            refine j_aload_n C dX0_proof_96 rfl 97 rfl ?_
            refine gf_X0_180_14 C (x := 0) hP.1 dX0_proof_97 100 rfl ?_
            rw [hP.2.2.2.1 2 (Or.inl (by decide))]
            exact j_iret C hQ ⟨by rw [if_pos (And.intro c_4 c_16), hcs, if_neg (show ¬ kd s = 0 by omega), show (nI 4 : Int32).toNatClampNeg = 4 from rfl, gl_pv], rfl⟩ (by omega) (by omega) dX0_proof_100
          · refine j_tableIn C 101 dX0_proof_34 (by decide) (by decide) rfl (by decide) ?_
            refine j_aload_n C dX0_proof_101 rfl 102 rfl ?_
            refine j_ci C (cs_X0_281_14 C (ct_X14_key_14 (p := p s) (x := 0) (h - 1) (by omega) hP.1) (xx := 0) hP.1 rfl (by omega) (by omega) (by omega) rfl (Nat.le_of_ble_eq_true rfl) dX0_proof_102) 105 rfl ?_
            rintro _ _ ⟨rfl, rfl⟩
            rw [hP.2.2.2.1 5 (Or.inr (Or.inl ⟨by decide, by decide⟩))]
            exact j_iret C hQ ⟨by rw [if_pos (And.intro c_4 c_16), hcs, if_neg (show ¬ kd s = 0 by omega), show (nI 5 : Int32).toNatClampNeg = 5 from rfl, gl_pv, hkd]; rw [if_neg (by decide), if_pos (by decide)], rfl⟩ (by omega) (by omega) dX0_proof_105
          · refine j_tableIn C 106 dX0_proof_34 (by decide) (by decide) rfl (by decide) ?_
            refine j_aload_n C dX0_proof_106 rfl 107 rfl ?_
            refine j_ci C (cs_X0_283_14 C (ct_X14_latest_14 (p := p s) (x := 0) (h - 1) (by omega) hP.1) (xx := 0) hP.1 rfl (by omega) (by omega) (by omega) rfl (Nat.le_of_ble_eq_true rfl) dX0_proof_107) 110 rfl ?_
            rintro _ _ ⟨rfl, rfl⟩
            rw [hP.2.2.2.1 6 (Or.inr (Or.inl ⟨by decide, by decide⟩))]
            exact j_iret C hQ ⟨by rw [if_pos (And.intro c_4 c_16), hcs, if_neg (show ¬ kd s = 0 by omega), show (nI 6 : Int32).toNatClampNeg = 6 from rfl, gl_pv, hkd]; rw [if_pos (by decide)], rfl⟩ (by omega) (by omega) dX0_proof_110
        · refine j_tableOut C 111 dX0_proof_34 (by omega) (by decide) ?_
          refine j_aload_n C dX0_proof_111 rfl 112 rfl ?_
          refine j_ci C (cs_X0_285_14 C (ct_X15_other (p := p s) (x := 0) (h - 1) (by omega) hP.1) (xx := 0) hP.1 rfl (by omega) (by omega) (by omega) rfl (Nat.le_of_ble_eq_true rfl) dX0_proof_112) 115 rfl ?_
          rintro _ _ ⟨rfl, rfl⟩
          rw [hP.2.2.2.1 7 (Or.inr (Or.inr ⟨rfl, rfl⟩))]
          exact j_iret C hQ ⟨by have e7 := gl_w7 c_16 ho_; subst e7; rw [if_pos ⟨c_4, c_16⟩, hcs, if_neg (show ¬ kd s = 0 by omega)]; show _ = (if kd s = 4 then v s 7 else nI 0); rw [hkd]; rw [if_pos (by decide)], rfl⟩ (by omega) (by omega) dX0_proof_115
      · obtain ⟨hR, hP⟩ := p3 (by omega)
        rw [hkd] at hP
        have hP : gl_pf _ I L R (p s) (st s) (kl s) (vl s) 10 (v s) (n8 s) (I (st s)) (m s) (ks s) (vs s) := hP
        rw [if_pos c_4, hcs, hR]
        change gl_J _ _ _ _ _ _ (Value.ref _ :: _)
        have h6 := hP.2.2.2.2.2 (by decide)
        refine j_astore_n C dX0_proof_26 (Nat.le_of_ble_eq_true rfl) (by rw [hnL]; decide) rfl 27 rfl ?_
        refine j_aload_n C dX0_proof_27 rfl 28 rfl ?_
        refine j_ifnonnull C 33 dX0_proof_28 (by decide) ?_
        refine j_iload_n C dX0_proof_33 rfl 34 rfl ?_
        rcases gl_sw w 7 (by decide) with ⟨k_, hk_, rfl⟩ | ho_
        · rcases (show k_ = 0 ∨ k_ = 1 ∨ k_ = 2 ∨ k_ = 3 ∨ k_ = 4 ∨ k_ = 5 ∨ k_ = 6 by omega) with rfl | rfl | rfl | rfl | rfl | rfl | rfl
          · refine j_tableIn C 76 dX0_proof_34 (by decide) (by decide) rfl (by decide) ?_
            refine j_aload_n C dX0_proof_76 rfl 77 rfl ?_
            refine j_ci C (cs_X0_277_10 C (ct_X11_kind (h - 1) (by omega)) (xx := 0) hP.1 rfl (by omega) (by omega) (by omega) rfl (Nat.le_of_ble_eq_true rfl) dX0_proof_77) 80 rfl ?_
            rintro _ _ ⟨rfl, rfl⟩
            exact j_iret C hQ ⟨by rw [if_pos (And.intro c_4 c_16), hcs, if_neg (show ¬ kd s = 0 by omega), show (nI 0 : Int32).toNatClampNeg = 0 from rfl, gl_pv, hkd], rfl⟩ (by omega) (by omega) dX0_proof_80
          · refine j_tableIn C 81 dX0_proof_34 (by decide) (by decide) rfl (by decide) ?_
            refine j_aload_n C dX0_proof_81 rfl 82 rfl ?_
            refine gf_X0_183_10 C (x := 0) hP.1 dX0_proof_82 85 rfl ?_
            rw [hP.2.2.2.1 3 (Or.inl (by decide))]
            exact j_iret C hQ ⟨by rw [if_pos (And.intro c_4 c_16), hcs, if_neg (show ¬ kd s = 0 by omega), show (nI 1 : Int32).toNatClampNeg = 1 from rfl, gl_pv], rfl⟩ (by omega) (by omega) dX0_proof_85
          · refine j_tableIn C 86 dX0_proof_34 (by decide) (by decide) rfl (by decide) ?_
            refine j_aload_n C dX0_proof_86 rfl 87 rfl ?_
            refine gf_X0_174_10 C (x := 0) hP.1 dX0_proof_87 90 rfl ?_
            rw [hP.2.2.2.1 0 (Or.inl (by decide))]
            exact j_iret C hQ ⟨by rw [if_pos (And.intro c_4 c_16), hcs, if_neg (show ¬ kd s = 0 by omega), show (nI 2 : Int32).toNatClampNeg = 2 from rfl, gl_pv], rfl⟩ (by omega) (by omega) dX0_proof_90
          · refine j_tableIn C 91 dX0_proof_34 (by decide) (by decide) rfl (by decide) ?_
            refine j_aload_n C dX0_proof_91 rfl 92 rfl ?_
            refine gf_X0_177_10 C (x := 0) hP.1 dX0_proof_92 95 rfl ?_
            rw [hP.2.2.2.1 1 (Or.inl (by decide))]
            exact j_iret C hQ ⟨by rw [if_pos (And.intro c_4 c_16), hcs, if_neg (show ¬ kd s = 0 by omega), show (nI 3 : Int32).toNatClampNeg = 3 from rfl, gl_pv], rfl⟩ (by omega) (by omega) dX0_proof_95
          · refine j_tableIn C 96 dX0_proof_34 (by decide) (by decide) rfl (by decide) ?_
            refine j_aload_n C dX0_proof_96 rfl 97 rfl ?_
            refine gf_X0_180_10 C (x := 0) hP.1 dX0_proof_97 100 rfl ?_
            rw [hP.2.2.2.1 2 (Or.inl (by decide))]
            exact j_iret C hQ ⟨by rw [if_pos (And.intro c_4 c_16), hcs, if_neg (show ¬ kd s = 0 by omega), show (nI 4 : Int32).toNatClampNeg = 4 from rfl, gl_pv], rfl⟩ (by omega) (by omega) dX0_proof_100
          · refine j_tableIn C 101 dX0_proof_34 (by decide) (by decide) rfl (by decide) ?_
            refine j_aload_n C dX0_proof_101 rfl 102 rfl ?_
            refine j_ci C (cs_X0_281_10 C (ct_X11_key_10 (p := p s) (x := 0) (kl := kl s) (m := m s) (h - 1) (by omega) hP.1 h6.1 h6.2.2.1 (by have := hmb s hs; omega)) (xx := 0) hP.1 rfl (by omega) (by omega) (by omega) rfl (Nat.le_of_ble_eq_true rfl) dX0_proof_102) 105 rfl ?_
            rintro _ _ ⟨rfl, rfl⟩
            exact j_iret C hQ ⟨by rw [if_pos (And.intro c_4 c_16), hcs, if_neg (show ¬ kd s = 0 by omega), show (nI 5 : Int32).toNatClampNeg = 5 from rfl, gl_pv, hkd]; rw [if_pos (show ((5 : Nat) = 1 ∨ (5 : Nat) = 5) by decide)]; exact gl_ifm (fun z => (h6.2.2.2.2.2 0 z).1), rfl⟩ (by omega) (by omega) dX0_proof_105
          · refine j_tableIn C 106 dX0_proof_34 (by decide) (by decide) rfl (by decide) ?_
            refine j_aload_n C dX0_proof_106 rfl 107 rfl ?_
            refine j_ci C (cs_X0_283_10 C (ct_X10_latest (h - 1) (by omega)) (xx := 0) hP.1 rfl (by omega) (by omega) (by omega) rfl (Nat.le_of_ble_eq_true rfl) dX0_proof_107) 110 rfl ?_
            rintro _ _ ⟨rfl, rfl⟩
            exact j_iret C hQ ⟨by rw [if_pos (And.intro c_4 c_16), hcs, if_neg (show ¬ kd s = 0 by omega), show (nI 6 : Int32).toNatClampNeg = 6 from rfl, gl_pv, hkd]; rw [if_neg (by decide)], rfl⟩ (by omega) (by omega) dX0_proof_110
        · refine j_tableOut C 111 dX0_proof_34 (by omega) (by decide) ?_
          refine j_aload_n C dX0_proof_111 rfl 112 rfl ?_
          refine j_ci C (cs_X0_285_10 C (ct_X10_other (h - 1) (by omega)) (xx := 0) hP.1 rfl (by omega) (by omega) (by omega) rfl (Nat.le_of_ble_eq_true rfl) dX0_proof_112) 115 rfl ?_
          rintro _ _ ⟨rfl, rfl⟩
          exact j_iret C hQ ⟨by have e7 := gl_w7 c_16 ho_; subst e7; rw [if_pos ⟨c_4, c_16⟩, hcs, if_neg (show ¬ kd s = 0 by omega)]; show _ = (if kd s = 4 then v s 7 else nI 0); rw [hkd]; rw [if_neg (by decide)], rfl⟩ (by omega) (by omega) dX0_proof_115
    · refine j_iconst (v := -1) C dX0_proof_19 (by decide) 20 rfl ?_
      exact j_iret C hQ ⟨by rw [if_neg (fun q => by rw [c_16] at q; exact absurd q.2 (by decide))], rfl⟩ (by omega) (by omega) dX0_proof_20
set_option maxHeartbeats 4000000 in
set_option maxRecDepth 100000 in
theorem ct_X0_drop {l : Launch} {δ : gl_Del} {Λ : gl_Lay} {I : Nat → Nat → Int32} {L : Nat → Nat → Int64} {B : Nat → Nat → Bool} {R : Nat → Nat → Option Nat} {kd p st kl vl : Nat → Nat} {v : Nat → Nat → Int32} {n8 m : Nat → Nat} {ks : Nat → Nat → Int32} {vs : Nat → Nat → Int64} {x : Int32} (h : Nat) (hh : 5 ≤ h) (hG : gl_GL Λ R) (P : gl_gS Λ I L R 1 kd p st kl vl v n8 m ks vs) (hmb : ∀ s, s < 16 → m s < 2 ^ 24) : gl_Ct l δ yX0_drop (ws_ yX0_drop cX0_drop 3 ((some FieldType.int))) (gl_rm h 0 0) 0 0 [.ref 0, .int x] (Λ, I, L, B, R) (gl_Qi fun r S => if gl_in x 16 = true then r = nI (kd x.toNatClampNeg) ∧ S = (Λ, I, L, B, gl_u2 R (1 + 121 + x.toNatClampNeg) 0 none) else r = -1 ∧ S = (Λ, I, L, B, R)) := by
  refine gl_of (by decide) (Nat.le_of_ble_eq_true rfl) rfl ?_
  intro κ C hQ hlκ hδκ hnL hini
  change gl_Cx κ RX0 _ _ _ at C
  refine j_iload_n C dX0_drop_0 rfl 1 rfl ?_
  refine j_ci C (cs_X0_224 C (ct_X0_isSlot (h - 1) (by omega)) rfl (by omega) (by omega) (by omega) rfl (Nat.le_of_ble_eq_true rfl) dX0_drop_1) 4 rfl ?_
  rintro _ _ ⟨rfl, rfl⟩
  refine b_if_ne C 9 7 dX0_drop_4 (by decide) rfl (fun c_4 => ?_) (fun c_4 => ?_)
  · obtain ⟨s, hs, rfl⟩ := (gl_in_iff (by decide)).mp c_4
    have hcs : (nI s).toNatClampNeg = s := nI_clamp (by omega)
    refine j_aload_n C dX0_drop_9 rfl 10 rfl ?_
    refine j_iload_n C dX0_drop_10 rfl 11 rfl ?_
    refine j_iconst (v := nI 0) C dX0_drop_11 (by decide) 12 rfl ?_
    refine j_ci C (cs_X0_270 C (ct_X0_proof (h - 1) (by omega) hG P hmb) hG.o rfl (by omega) (by omega) (by omega) rfl (Nat.le_of_ble_eq_true rfl) dX0_drop_12) 15 rfl ?_
    rintro _ _ ⟨rfl, rfl⟩
    rw [if_pos ⟨c_4, by decide⟩, hcs, show (if kd s = 0 then nI 0 else gl_pv (kd s) (v s) (m s) (ks s) (nI 0).toNatClampNeg) = nI (kd s) by
        rcases Nat.eq_zero_or_pos (kd s) with z | z
        · rw [if_pos z, z]
        · rw [if_neg (by omega)]; rfl]
    refine j_istore_n C dX0_drop_15 (Nat.le_of_ble_eq_true rfl) (by rw [hnL]; decide) rfl 16 rfl ?_
    refine j_aload_n C dX0_drop_16 rfl 17 rfl ?_
    refine gf_X0_12 C hG.o hG.r0 dX0_drop_17 20 rfl ?_
    refine gf_X0_193 C hG.hs.o hG.hs.r1 dX0_drop_20 23 rfl ?_
    refine j_iload_n C dX0_drop_23 rfl 24 rfl ?_
    refine j_aald C (by decide) hG.hs.k2 (by omega) (by decide) dX0_drop_24 25 rfl ?_
    rw [hG.hs.sr s (by omega)]
    change gl_J _ _ _ _ _ _ (Value.ref _ :: _)
    refine j_null C dX0_drop_25 26 rfl ?_
    refine pf_X0_197_N C (hG.hs.sl s hs) dX0_drop_26 29 rfl ?_
    refine j_iload_n C dX0_drop_29 rfl 30 rfl ?_
    exact j_iret C hQ (by rw [if_pos c_4, hcs]; exact ⟨rfl, rfl⟩) (by omega) (by omega) dX0_drop_30
  · refine j_iconst (v := -1) C dX0_drop_7 (by decide) 8 rfl ?_
    exact j_iret C hQ (by rw [if_neg (by rw [c_4]; decide)]; exact ⟨rfl, rfl⟩) (by omega) (by omega) dX0_drop_8
set_option maxHeartbeats 4000000 in
set_option maxRecDepth 100000 in
theorem ct_X0_isStep_0 {l : Launch} {δ : gl_Del} {S : gl_Sto} {x j : Int32} (h : Nat) (hh : 2 ≤ h)  : gl_Ct l δ yX0_isStep (ws_ yX0_isStep cX0_isStep 3 ((some FieldType.boolean))) (gl_rm h 0 0) 0 0 [.null, .int x, .int j] S (gl_Qi fun r S1 => r = b2i false ∧ S1 = S) := by
  refine gl_of (by decide) (Nat.le_of_ble_eq_true rfl) rfl ?_
  intro κ C hQ hlκ hδκ hnL hini
  change gl_Cx κ RX0 _ _ _ at C
  refine j_aload_nN C dX0_isStep_0 rfl 1 rfl ?_
  refine j_ifnullN C 36 dX0_isStep_1 (by decide) ?_
  refine j_iconst (v := b2i false) C dX0_isStep_36 (by decide) 37 rfl ?_
  exact j_zret C hQ ⟨rfl, rfl⟩ (by omega) (by omega) dX0_isStep_37
set_option maxHeartbeats 4000000 in
set_option maxRecDepth 100000 in
theorem ct_X0_isStep_10 {l : Launch} {δ : gl_Del} {Λ : gl_Lay} {I : Nat → Nat → Int32} {L : Nat → Nat → Int64} {B : Nat → Nat → Bool} {R : Nat → Nat → Option Nat} {p mn : Nat} {x j : Int32} (h : Nat) (hh : 2 ≤ h) (hk : Λ.2 p = (18, 0)) (hm : I p 3 = nI mn) (hb : mn ≤ 256) : gl_Ct l δ yX0_isStep (ws_ yX0_isStep cX0_isStep 3 ((some FieldType.boolean))) (gl_rm h 0 0) 0 0 [.ref p, .int x, .int j] (Λ, I, L, B, R) (gl_Qi fun r S => r = b2i (gl_in x mn && gl_in j 8) ∧ S = (Λ, I, L, B, R)) := by
  refine gl_of (by decide) (Nat.le_of_ble_eq_true rfl) rfl ?_
  intro κ C hQ hlκ hδκ hnL hini
  change gl_Cx κ RX0 _ _ _ at C
  refine j_aload_n C dX0_isStep_0 rfl 1 rfl ?_
  refine j_ifnull C dX0_isStep_1 4 rfl ?_
  refine j_iload_n C dX0_isStep_4 rfl 5 rfl ?_
  refine j_i2l C dX0_isStep_5 rfl 6 rfl ?_
  refine j_lconst (v := lN 0) C dX0_isStep_6 (by decide) 7 rfl ?_
  refine j_aload_n C dX0_isStep_7 rfl 8 rfl ?_
  refine gf_X0_183_10 C hk dX0_isStep_8 11 rfl ?_
  rw [hm]
  refine j_iconst (v := nI 1) C dX0_isStep_11 (by decide) 12 rfl ?_
  refine j_isub C dX0_isStep_12 13 rfl ?_
  refine j_i2l C dX0_isStep_13 rfl 14 rfl ?_
  refine j_ci C (cs_X0_57 C (ct_X0_in (h - 1) (by omega)) rfl (by omega) (by omega) (by omega) rfl (Nat.le_of_ble_eq_true rfl) dX0_isStep_14) 17 rfl ?_
  rintro _ _ ⟨rfl, rfl⟩
  rw [gl_il_n (by omega)]
  refine b_if_eq C 36 20 dX0_isStep_17 (by decide) rfl (fun c_17 => ?_) (fun c_17 => ?_)
  · refine j_iconst (v := b2i false) C dX0_isStep_36 (by decide) 37 rfl ?_
    exact j_zret C hQ ⟨by rw [c_17]; rfl, rfl⟩ (by omega) (by omega) dX0_isStep_37
  · refine j_iload_n C dX0_isStep_20 rfl 21 rfl ?_
    refine j_i2l C dX0_isStep_21 rfl 22 rfl ?_
    refine j_lconst (v := lN 0) C dX0_isStep_22 (by decide) 23 rfl ?_
    refine j_ldc2 C q518 dX0_isStep_23 26 rfl ?_
    rw [show (7 : Int64) = lN 7 from rfl]
    refine j_ci C (cs_X0_57 C (ct_X0_in (h - 1) (by omega)) rfl (by omega) (by omega) (by omega) rfl (Nat.le_of_ble_eq_true rfl) dX0_isStep_26) 29 rfl ?_
    rintro _ _ ⟨rfl, rfl⟩
    rw [gl_il_c (n := 7) (by decide), show 7 + 1 = 8 from rfl]
    refine b_if_eq C 36 32 dX0_isStep_29 (by decide) rfl (fun c_29 => ?_) (fun c_29 => ?_)
    · refine j_iconst (v := b2i false) C dX0_isStep_36 (by decide) 37 rfl ?_
      exact j_zret C hQ ⟨by rw [c_17, c_29]; rfl, rfl⟩ (by omega) (by omega) dX0_isStep_37
    · refine j_iconst (v := b2i true) C dX0_isStep_32 (by decide) 33 rfl ?_
      refine j_goto (tgt := 37) C dX0_isStep_33 (by decide) ?_
      exact j_zret C hQ ⟨by rw [c_17, c_29]; rfl, rfl⟩ (by omega) (by omega) dX0_isStep_37
set_option maxHeartbeats 4000000 in
set_option maxRecDepth 100000 in
theorem ct_X0_isStep_11 {l : Launch} {δ : gl_Del} {Λ : gl_Lay} {I : Nat → Nat → Int32} {L : Nat → Nat → Int64} {B : Nat → Nat → Bool} {R : Nat → Nat → Option Nat} {p mn : Nat} {x j : Int32} (h : Nat) (hh : 2 ≤ h) (hk : Λ.2 p = (19, 0)) (hm : I p 3 = nI mn) (hb : mn ≤ 256) : gl_Ct l δ yX0_isStep (ws_ yX0_isStep cX0_isStep 3 ((some FieldType.boolean))) (gl_rm h 0 0) 0 0 [.ref p, .int x, .int j] (Λ, I, L, B, R) (gl_Qi fun r S => r = b2i (gl_in x mn && gl_in j 8) ∧ S = (Λ, I, L, B, R)) := by
  refine gl_of (by decide) (Nat.le_of_ble_eq_true rfl) rfl ?_
  intro κ C hQ hlκ hδκ hnL hini
  change gl_Cx κ RX0 _ _ _ at C
  refine j_aload_n C dX0_isStep_0 rfl 1 rfl ?_
  refine j_ifnull C dX0_isStep_1 4 rfl ?_
  refine j_iload_n C dX0_isStep_4 rfl 5 rfl ?_
  refine j_i2l C dX0_isStep_5 rfl 6 rfl ?_
  refine j_lconst (v := lN 0) C dX0_isStep_6 (by decide) 7 rfl ?_
  refine j_aload_n C dX0_isStep_7 rfl 8 rfl ?_
  refine gf_X0_183_11 C hk dX0_isStep_8 11 rfl ?_
  rw [hm]
  refine j_iconst (v := nI 1) C dX0_isStep_11 (by decide) 12 rfl ?_
  refine j_isub C dX0_isStep_12 13 rfl ?_
  refine j_i2l C dX0_isStep_13 rfl 14 rfl ?_
  refine j_ci C (cs_X0_57 C (ct_X0_in (h - 1) (by omega)) rfl (by omega) (by omega) (by omega) rfl (Nat.le_of_ble_eq_true rfl) dX0_isStep_14) 17 rfl ?_
  rintro _ _ ⟨rfl, rfl⟩
  rw [gl_il_n (by omega)]
  refine b_if_eq C 36 20 dX0_isStep_17 (by decide) rfl (fun c_17 => ?_) (fun c_17 => ?_)
  · refine j_iconst (v := b2i false) C dX0_isStep_36 (by decide) 37 rfl ?_
    exact j_zret C hQ ⟨by rw [c_17]; rfl, rfl⟩ (by omega) (by omega) dX0_isStep_37
  · refine j_iload_n C dX0_isStep_20 rfl 21 rfl ?_
    refine j_i2l C dX0_isStep_21 rfl 22 rfl ?_
    refine j_lconst (v := lN 0) C dX0_isStep_22 (by decide) 23 rfl ?_
    refine j_ldc2 C q518 dX0_isStep_23 26 rfl ?_
    rw [show (7 : Int64) = lN 7 from rfl]
    refine j_ci C (cs_X0_57 C (ct_X0_in (h - 1) (by omega)) rfl (by omega) (by omega) (by omega) rfl (Nat.le_of_ble_eq_true rfl) dX0_isStep_26) 29 rfl ?_
    rintro _ _ ⟨rfl, rfl⟩
    rw [gl_il_c (n := 7) (by decide), show 7 + 1 = 8 from rfl]
    refine b_if_eq C 36 32 dX0_isStep_29 (by decide) rfl (fun c_29 => ?_) (fun c_29 => ?_)
    · refine j_iconst (v := b2i false) C dX0_isStep_36 (by decide) 37 rfl ?_
      exact j_zret C hQ ⟨by rw [c_17, c_29]; rfl, rfl⟩ (by omega) (by omega) dX0_isStep_37
    · refine j_iconst (v := b2i true) C dX0_isStep_32 (by decide) 33 rfl ?_
      refine j_goto (tgt := 37) C dX0_isStep_33 (by decide) ?_
      exact j_zret C hQ ⟨by rw [c_17, c_29]; rfl, rfl⟩ (by omega) (by omega) dX0_isStep_37
set_option maxHeartbeats 4000000 in
set_option maxRecDepth 100000 in
theorem ct_X0_isStep_12 {l : Launch} {δ : gl_Del} {Λ : gl_Lay} {I : Nat → Nat → Int32} {L : Nat → Nat → Int64} {B : Nat → Nat → Bool} {R : Nat → Nat → Option Nat} {p mn : Nat} {x j : Int32} (h : Nat) (hh : 2 ≤ h) (hk : Λ.2 p = (20, 0)) (hm : I p 3 = nI mn) (hb : mn ≤ 256) : gl_Ct l δ yX0_isStep (ws_ yX0_isStep cX0_isStep 3 ((some FieldType.boolean))) (gl_rm h 0 0) 0 0 [.ref p, .int x, .int j] (Λ, I, L, B, R) (gl_Qi fun r S => r = b2i (gl_in x mn && gl_in j 8) ∧ S = (Λ, I, L, B, R)) := by
  refine gl_of (by decide) (Nat.le_of_ble_eq_true rfl) rfl ?_
  intro κ C hQ hlκ hδκ hnL hini
  change gl_Cx κ RX0 _ _ _ at C
  refine j_aload_n C dX0_isStep_0 rfl 1 rfl ?_
  refine j_ifnull C dX0_isStep_1 4 rfl ?_
  refine j_iload_n C dX0_isStep_4 rfl 5 rfl ?_
  refine j_i2l C dX0_isStep_5 rfl 6 rfl ?_
  refine j_lconst (v := lN 0) C dX0_isStep_6 (by decide) 7 rfl ?_
  refine j_aload_n C dX0_isStep_7 rfl 8 rfl ?_
  refine gf_X0_183_12 C hk dX0_isStep_8 11 rfl ?_
  rw [hm]
  refine j_iconst (v := nI 1) C dX0_isStep_11 (by decide) 12 rfl ?_
  refine j_isub C dX0_isStep_12 13 rfl ?_
  refine j_i2l C dX0_isStep_13 rfl 14 rfl ?_
  refine j_ci C (cs_X0_57 C (ct_X0_in (h - 1) (by omega)) rfl (by omega) (by omega) (by omega) rfl (Nat.le_of_ble_eq_true rfl) dX0_isStep_14) 17 rfl ?_
  rintro _ _ ⟨rfl, rfl⟩
  rw [gl_il_n (by omega)]
  refine b_if_eq C 36 20 dX0_isStep_17 (by decide) rfl (fun c_17 => ?_) (fun c_17 => ?_)
  · refine j_iconst (v := b2i false) C dX0_isStep_36 (by decide) 37 rfl ?_
    exact j_zret C hQ ⟨by rw [c_17]; rfl, rfl⟩ (by omega) (by omega) dX0_isStep_37
  · refine j_iload_n C dX0_isStep_20 rfl 21 rfl ?_
    refine j_i2l C dX0_isStep_21 rfl 22 rfl ?_
    refine j_lconst (v := lN 0) C dX0_isStep_22 (by decide) 23 rfl ?_
    refine j_ldc2 C q518 dX0_isStep_23 26 rfl ?_
    rw [show (7 : Int64) = lN 7 from rfl]
    refine j_ci C (cs_X0_57 C (ct_X0_in (h - 1) (by omega)) rfl (by omega) (by omega) (by omega) rfl (Nat.le_of_ble_eq_true rfl) dX0_isStep_26) 29 rfl ?_
    rintro _ _ ⟨rfl, rfl⟩
    rw [gl_il_c (n := 7) (by decide), show 7 + 1 = 8 from rfl]
    refine b_if_eq C 36 32 dX0_isStep_29 (by decide) rfl (fun c_29 => ?_) (fun c_29 => ?_)
    · refine j_iconst (v := b2i false) C dX0_isStep_36 (by decide) 37 rfl ?_
      exact j_zret C hQ ⟨by rw [c_17, c_29]; rfl, rfl⟩ (by omega) (by omega) dX0_isStep_37
    · refine j_iconst (v := b2i true) C dX0_isStep_32 (by decide) 33 rfl ?_
      refine j_goto (tgt := 37) C dX0_isStep_33 (by decide) ?_
      exact j_zret C hQ ⟨by rw [c_17, c_29]; rfl, rfl⟩ (by omega) (by omega) dX0_isStep_37
set_option maxHeartbeats 4000000 in
set_option maxRecDepth 100000 in
theorem ct_X0_isStep_13 {l : Launch} {δ : gl_Del} {Λ : gl_Lay} {I : Nat → Nat → Int32} {L : Nat → Nat → Int64} {B : Nat → Nat → Bool} {R : Nat → Nat → Option Nat} {p mn : Nat} {x j : Int32} (h : Nat) (hh : 2 ≤ h) (hk : Λ.2 p = (21, 0)) (hm : I p 3 = nI mn) (hb : mn ≤ 256) : gl_Ct l δ yX0_isStep (ws_ yX0_isStep cX0_isStep 3 ((some FieldType.boolean))) (gl_rm h 0 0) 0 0 [.ref p, .int x, .int j] (Λ, I, L, B, R) (gl_Qi fun r S => r = b2i (gl_in x mn && gl_in j 8) ∧ S = (Λ, I, L, B, R)) := by
  refine gl_of (by decide) (Nat.le_of_ble_eq_true rfl) rfl ?_
  intro κ C hQ hlκ hδκ hnL hini
  change gl_Cx κ RX0 _ _ _ at C
  refine j_aload_n C dX0_isStep_0 rfl 1 rfl ?_
  refine j_ifnull C dX0_isStep_1 4 rfl ?_
  refine j_iload_n C dX0_isStep_4 rfl 5 rfl ?_
  refine j_i2l C dX0_isStep_5 rfl 6 rfl ?_
  refine j_lconst (v := lN 0) C dX0_isStep_6 (by decide) 7 rfl ?_
  refine j_aload_n C dX0_isStep_7 rfl 8 rfl ?_
  refine gf_X0_183_13 C hk dX0_isStep_8 11 rfl ?_
  rw [hm]
  refine j_iconst (v := nI 1) C dX0_isStep_11 (by decide) 12 rfl ?_
  refine j_isub C dX0_isStep_12 13 rfl ?_
  refine j_i2l C dX0_isStep_13 rfl 14 rfl ?_
  refine j_ci C (cs_X0_57 C (ct_X0_in (h - 1) (by omega)) rfl (by omega) (by omega) (by omega) rfl (Nat.le_of_ble_eq_true rfl) dX0_isStep_14) 17 rfl ?_
  rintro _ _ ⟨rfl, rfl⟩
  rw [gl_il_n (by omega)]
  refine b_if_eq C 36 20 dX0_isStep_17 (by decide) rfl (fun c_17 => ?_) (fun c_17 => ?_)
  · refine j_iconst (v := b2i false) C dX0_isStep_36 (by decide) 37 rfl ?_
    exact j_zret C hQ ⟨by rw [c_17]; rfl, rfl⟩ (by omega) (by omega) dX0_isStep_37
  · refine j_iload_n C dX0_isStep_20 rfl 21 rfl ?_
    refine j_i2l C dX0_isStep_21 rfl 22 rfl ?_
    refine j_lconst (v := lN 0) C dX0_isStep_22 (by decide) 23 rfl ?_
    refine j_ldc2 C q518 dX0_isStep_23 26 rfl ?_
    rw [show (7 : Int64) = lN 7 from rfl]
    refine j_ci C (cs_X0_57 C (ct_X0_in (h - 1) (by omega)) rfl (by omega) (by omega) (by omega) rfl (Nat.le_of_ble_eq_true rfl) dX0_isStep_26) 29 rfl ?_
    rintro _ _ ⟨rfl, rfl⟩
    rw [gl_il_c (n := 7) (by decide), show 7 + 1 = 8 from rfl]
    refine b_if_eq C 36 32 dX0_isStep_29 (by decide) rfl (fun c_29 => ?_) (fun c_29 => ?_)
    · refine j_iconst (v := b2i false) C dX0_isStep_36 (by decide) 37 rfl ?_
      exact j_zret C hQ ⟨by rw [c_17, c_29]; rfl, rfl⟩ (by omega) (by omega) dX0_isStep_37
    · refine j_iconst (v := b2i true) C dX0_isStep_32 (by decide) 33 rfl ?_
      refine j_goto (tgt := 37) C dX0_isStep_33 (by decide) ?_
      exact j_zret C hQ ⟨by rw [c_17, c_29]; rfl, rfl⟩ (by omega) (by omega) dX0_isStep_37
set_option maxHeartbeats 4000000 in
set_option maxRecDepth 100000 in
theorem ct_X0_isStep_14 {l : Launch} {δ : gl_Del} {Λ : gl_Lay} {I : Nat → Nat → Int32} {L : Nat → Nat → Int64} {B : Nat → Nat → Bool} {R : Nat → Nat → Option Nat} {p mn : Nat} {x j : Int32} (h : Nat) (hh : 2 ≤ h) (hk : Λ.2 p = (22, 0)) (hm : I p 3 = nI mn) (hb : mn ≤ 256) : gl_Ct l δ yX0_isStep (ws_ yX0_isStep cX0_isStep 3 ((some FieldType.boolean))) (gl_rm h 0 0) 0 0 [.ref p, .int x, .int j] (Λ, I, L, B, R) (gl_Qi fun r S => r = b2i (gl_in x mn && gl_in j 8) ∧ S = (Λ, I, L, B, R)) := by
  refine gl_of (by decide) (Nat.le_of_ble_eq_true rfl) rfl ?_
  intro κ C hQ hlκ hδκ hnL hini
  change gl_Cx κ RX0 _ _ _ at C
  refine j_aload_n C dX0_isStep_0 rfl 1 rfl ?_
  refine j_ifnull C dX0_isStep_1 4 rfl ?_
  refine j_iload_n C dX0_isStep_4 rfl 5 rfl ?_
  refine j_i2l C dX0_isStep_5 rfl 6 rfl ?_
  refine j_lconst (v := lN 0) C dX0_isStep_6 (by decide) 7 rfl ?_
  refine j_aload_n C dX0_isStep_7 rfl 8 rfl ?_
  refine gf_X0_183_14 C hk dX0_isStep_8 11 rfl ?_
  rw [hm]
  refine j_iconst (v := nI 1) C dX0_isStep_11 (by decide) 12 rfl ?_
  refine j_isub C dX0_isStep_12 13 rfl ?_
  refine j_i2l C dX0_isStep_13 rfl 14 rfl ?_
  refine j_ci C (cs_X0_57 C (ct_X0_in (h - 1) (by omega)) rfl (by omega) (by omega) (by omega) rfl (Nat.le_of_ble_eq_true rfl) dX0_isStep_14) 17 rfl ?_
  rintro _ _ ⟨rfl, rfl⟩
  rw [gl_il_n (by omega)]
  refine b_if_eq C 36 20 dX0_isStep_17 (by decide) rfl (fun c_17 => ?_) (fun c_17 => ?_)
  · refine j_iconst (v := b2i false) C dX0_isStep_36 (by decide) 37 rfl ?_
    exact j_zret C hQ ⟨by rw [c_17]; rfl, rfl⟩ (by omega) (by omega) dX0_isStep_37
  · refine j_iload_n C dX0_isStep_20 rfl 21 rfl ?_
    refine j_i2l C dX0_isStep_21 rfl 22 rfl ?_
    refine j_lconst (v := lN 0) C dX0_isStep_22 (by decide) 23 rfl ?_
    refine j_ldc2 C q518 dX0_isStep_23 26 rfl ?_
    rw [show (7 : Int64) = lN 7 from rfl]
    refine j_ci C (cs_X0_57 C (ct_X0_in (h - 1) (by omega)) rfl (by omega) (by omega) (by omega) rfl (Nat.le_of_ble_eq_true rfl) dX0_isStep_26) 29 rfl ?_
    rintro _ _ ⟨rfl, rfl⟩
    rw [gl_il_c (n := 7) (by decide), show 7 + 1 = 8 from rfl]
    refine b_if_eq C 36 32 dX0_isStep_29 (by decide) rfl (fun c_29 => ?_) (fun c_29 => ?_)
    · refine j_iconst (v := b2i false) C dX0_isStep_36 (by decide) 37 rfl ?_
      exact j_zret C hQ ⟨by rw [c_17, c_29]; rfl, rfl⟩ (by omega) (by omega) dX0_isStep_37
    · refine j_iconst (v := b2i true) C dX0_isStep_32 (by decide) 33 rfl ?_
      refine j_goto (tgt := 37) C dX0_isStep_33 (by decide) ?_
      exact j_zret C hQ ⟨by rw [c_17, c_29]; rfl, rfl⟩ (by omega) (by omega) dX0_isStep_37
set_option maxHeartbeats 4000000 in
set_option maxRecDepth 100000 in
theorem ct_X0_step {l : Launch} {δ : gl_Del} {Λ : gl_Lay} {I : Nat → Nat → Int32} {L : Nat → Nat → Int64} {B : Nat → Nat → Bool} {R : Nat → Nat → Option Nat} {kd p st kl vl : Nat → Nat} {v : Nat → Nat → Int32} {n8 m : Nat → Nat} {ks : Nat → Nat → Int32} {vs : Nat → Nat → Int64} {mn : Nat → Nat} {x t j : Int32} (h : Nat) (hh : 4 ≤ h) (hG : gl_GL Λ R) (P : gl_gS Λ I L R 1 kd p st kl vl v n8 m ks vs) (hmn : ∀ s, s < 16 → kd s ≠ 0 → v s 3 = nI (mn s) ∧ mn s ≤ 256 ∧ n8 s = mn s * 8) (hn24 : ∀ s, s < 16 → n8 s < 2 ^ 24) : gl_Ct l δ yX0_step (ws_ yX0_step cX0_step 5 ((some FieldType.int))) (gl_rm h 0 0) 0 0 [.ref 0, .int x, .int t, .int j] (Λ, I, L, B, R) (gl_Qi fun r S => r = (if (gl_in x 16 = true ∧ kd (x.toNatClampNeg) ≠ 0 ∧ gl_in t (mn (x.toNatClampNeg)) = true ∧ gl_in j 8 = true) then I (st x.toNatClampNeg) (t.toNatClampNeg * 8 + j.toNatClampNeg) else nI 0) ∧ S = (Λ, I, L, B, R)) := by
  refine gl_of (by decide) (Nat.le_of_ble_eq_true rfl) rfl ?_
  intro κ C hQ hlκ hδκ hnL hini
  change gl_Cx κ RX0 _ _ _ at C
  refine j_aload_n C dX0_step_0 rfl 1 rfl ?_
  refine j_iload_n C dX0_step_1 rfl 2 rfl ?_
  refine j_cr C (cs_X0_273 C (ct_X0_proofAt (h - 1) (by omega) hG P) hG.o rfl (by omega) (by omega) (by omega) rfl (Nat.le_of_ble_eq_true rfl) dX0_step_2) 5 rfl ?_
  rintro _ _ ⟨rfl, rfl⟩
  by_cases c_in : gl_in x 16 = true
  rotate_left
  · rw [if_neg c_in]
    change gl_J _ _ _ _ _ _ (Value.null :: _)
    refine j_astoreN C dX0_step_5 (Nat.le_of_ble_eq_true rfl) (by rw [hnL]; decide) rfl 7 rfl ?_
    refine j_aloadN C dX0_step_7 rfl 9 rfl ?_
    refine j_iload_n C dX0_step_9 rfl 10 rfl ?_
    refine j_iload_n C dX0_step_10 rfl 11 rfl ?_
    refine j_ci C (cs_X0_287 C (ct_X0_isStep_0 (h - 1) (by omega)) rfl (by omega) (by omega) (by omega) rfl (Nat.le_of_ble_eq_true rfl) dX0_step_11) 14 rfl ?_
    rintro _ _ ⟨rfl, rfl⟩
    refine b_if_eq C 32 17 dX0_step_14 (by decide) rfl (fun c_14 => ?_) (fun c_14 => ?_)
    · refine j_iconst (v := nI 0) C dX0_step_32 (by decide) 33 rfl ?_
      exact j_iret C hQ ⟨by rw [if_neg (fun q => c_in q.1)], rfl⟩ (by omega) (by omega) dX0_step_33
    · exact absurd c_14 (by decide)
  · obtain ⟨s, hs, rfl⟩ := (gl_in_iff (by decide)).mp c_in
    have hcs : (nI s).toNatClampNeg = s := nI_clamp (by omega)
    obtain ⟨p1, p2, p3⟩ := P s hs
    rcases (show kd s = 0 ∨ kd s = 1 ∨ kd s = 2 ∨ kd s = 3 ∨ kd s = 4 ∨ kd s = 5 by omega) with hkd | hkd | hkd | hkd | hkd | hkd
    · have hR := p2 hkd
      rw [if_pos c_in, hcs, hR]
      change gl_J _ _ _ _ _ _ (Value.null :: _)
      refine j_astoreN C dX0_step_5 (Nat.le_of_ble_eq_true rfl) (by rw [hnL]; decide) rfl 7 rfl ?_
      refine j_aloadN C dX0_step_7 rfl 9 rfl ?_
      refine j_iload_n C dX0_step_9 rfl 10 rfl ?_
      refine j_iload_n C dX0_step_10 rfl 11 rfl ?_
      refine j_ci C (cs_X0_287 C (ct_X0_isStep_0 (h - 1) (by omega)) rfl (by omega) (by omega) (by omega) rfl (Nat.le_of_ble_eq_true rfl) dX0_step_11) 14 rfl ?_
      rintro _ _ ⟨rfl, rfl⟩
      refine b_if_eq C 32 17 dX0_step_14 (by decide) rfl (fun c_14 => ?_) (fun c_14 => ?_)
      · refine j_iconst (v := nI 0) C dX0_step_32 (by decide) 33 rfl ?_
        exact j_iret C hQ ⟨by rw [if_neg (fun q => by rw [hcs] at q; exact q.2.1 hkd)], rfl⟩ (by omega) (by omega) dX0_step_33
      · exact absurd c_14 (by decide)
    · obtain ⟨hR, hP⟩ := p3 (by omega)
      rw [hkd] at hP
      have hP : gl_pf _ I L R (p s) (st s) (kl s) (vl s) 11 (v s) (n8 s) (I (st s)) (m s) (ks s) (vs s) := hP
      rw [if_pos c_in, hcs, hR]
      change gl_J _ _ _ _ _ _ (Value.ref _ :: _)
      obtain ⟨hv3, hm2, hn8⟩ := hmn s hs (by omega)
      refine j_astore C dX0_step_5 (Nat.le_of_ble_eq_true rfl) (by rw [hnL]; decide) rfl 7 rfl ?_
      refine j_aload C dX0_step_7 rfl 9 rfl ?_
      refine j_iload_n C dX0_step_9 rfl 10 rfl ?_
      refine j_iload_n C dX0_step_10 rfl 11 rfl ?_
      refine j_ci C (cs_X0_287 C (ct_X0_isStep_11 (p := p s) (mn := mn s) (h - 1) (by omega) hP.1 (by rw [hP.2.2.2.1 3 (Or.inl (by decide))]; exact hv3) hm2) rfl (by omega) (by omega) (by omega) rfl (Nat.le_of_ble_eq_true rfl) dX0_step_11) 14 rfl ?_
      rintro _ _ ⟨rfl, rfl⟩
      refine b_if_eq C 32 17 dX0_step_14 (by decide) rfl (fun c_14 => ?_) (fun c_14 => ?_)
      · refine j_iconst (v := nI 0) C dX0_step_32 (by decide) 33 rfl ?_
        exact j_iret C hQ ⟨by rw [if_neg (fun q => by rw [hcs] at q; rw [q.2.2.1, q.2.2.2] at c_14; exact absurd c_14 (by decide))], rfl⟩ (by omega) (by omega) dX0_step_33
      · obtain ⟨z1, z2⟩ := Bool.and_eq_true_iff.mp c_14
        obtain ⟨a0, ha0, rfl⟩ := (gl_in_iff (by omega)).mp z1
        obtain ⟨b0, hb0, rfl⟩ := (gl_in_iff (by decide)).mp z2
        have hca : (nI a0).toNatClampNeg = a0 := nI_clamp (by omega)
        have hcb : (nI b0).toNatClampNeg = b0 := nI_clamp (by omega)
        refine j_aload C dX0_step_17 rfl 19 rfl ?_
        refine gf_X0_190_11 C (x := 0) hP.1 hP.2.1 dX0_step_19 22 rfl ?_
        refine j_iload_n C dX0_step_22 rfl 23 rfl ?_
        refine j_bipush (v := nI 8) C dX0_step_23 (by decide) 25 rfl ?_
        refine n_imul C dX0_step_25 26 rfl ?_
        refine j_iload_n C dX0_step_26 rfl 27 rfl ?_
        refine n_iadd C dX0_step_27 28 rfl ?_
        refine j_iald C hP.2.2.1 (by omega) (by have := hn24 s hs; omega) dX0_step_28 29 rfl ?_
        refine j_goto (tgt := 33) C dX0_step_29 (by decide) ?_
        exact j_iret C hQ ⟨by rw [if_pos ⟨c_in, by rw [hcs]; omega, by rw [hcs]; exact z1, z2⟩, hcs, hca, hcb], rfl⟩ (by omega) (by omega) dX0_step_33
    · obtain ⟨hR, hP⟩ := p3 (by omega)
      rw [hkd] at hP
      have hP : gl_pf _ I L R (p s) (st s) (kl s) (vl s) 12 (v s) (n8 s) (I (st s)) (m s) (ks s) (vs s) := hP
      rw [if_pos c_in, hcs, hR]
      change gl_J _ _ _ _ _ _ (Value.ref _ :: _)
      obtain ⟨hv3, hm2, hn8⟩ := hmn s hs (by omega)
      refine j_astore C dX0_step_5 (Nat.le_of_ble_eq_true rfl) (by rw [hnL]; decide) rfl 7 rfl ?_
      refine j_aload C dX0_step_7 rfl 9 rfl ?_
      refine j_iload_n C dX0_step_9 rfl 10 rfl ?_
      refine j_iload_n C dX0_step_10 rfl 11 rfl ?_
      refine j_ci C (cs_X0_287 C (ct_X0_isStep_12 (p := p s) (mn := mn s) (h - 1) (by omega) hP.1 (by rw [hP.2.2.2.1 3 (Or.inl (by decide))]; exact hv3) hm2) rfl (by omega) (by omega) (by omega) rfl (Nat.le_of_ble_eq_true rfl) dX0_step_11) 14 rfl ?_
      rintro _ _ ⟨rfl, rfl⟩
      refine b_if_eq C 32 17 dX0_step_14 (by decide) rfl (fun c_14 => ?_) (fun c_14 => ?_)
      · refine j_iconst (v := nI 0) C dX0_step_32 (by decide) 33 rfl ?_
        exact j_iret C hQ ⟨by rw [if_neg (fun q => by rw [hcs] at q; rw [q.2.2.1, q.2.2.2] at c_14; exact absurd c_14 (by decide))], rfl⟩ (by omega) (by omega) dX0_step_33
      · obtain ⟨z1, z2⟩ := Bool.and_eq_true_iff.mp c_14
        obtain ⟨a0, ha0, rfl⟩ := (gl_in_iff (by omega)).mp z1
        obtain ⟨b0, hb0, rfl⟩ := (gl_in_iff (by decide)).mp z2
        have hca : (nI a0).toNatClampNeg = a0 := nI_clamp (by omega)
        have hcb : (nI b0).toNatClampNeg = b0 := nI_clamp (by omega)
        refine j_aload C dX0_step_17 rfl 19 rfl ?_
        refine gf_X0_190_12 C (x := 0) hP.1 hP.2.1 dX0_step_19 22 rfl ?_
        refine j_iload_n C dX0_step_22 rfl 23 rfl ?_
        refine j_bipush (v := nI 8) C dX0_step_23 (by decide) 25 rfl ?_
        refine n_imul C dX0_step_25 26 rfl ?_
        refine j_iload_n C dX0_step_26 rfl 27 rfl ?_
        refine n_iadd C dX0_step_27 28 rfl ?_
        refine j_iald C hP.2.2.1 (by omega) (by have := hn24 s hs; omega) dX0_step_28 29 rfl ?_
        refine j_goto (tgt := 33) C dX0_step_29 (by decide) ?_
        exact j_iret C hQ ⟨by rw [if_pos ⟨c_in, by rw [hcs]; omega, by rw [hcs]; exact z1, z2⟩, hcs, hca, hcb], rfl⟩ (by omega) (by omega) dX0_step_33
    · obtain ⟨hR, hP⟩ := p3 (by omega)
      rw [hkd] at hP
      have hP : gl_pf _ I L R (p s) (st s) (kl s) (vl s) 13 (v s) (n8 s) (I (st s)) (m s) (ks s) (vs s) := hP
      rw [if_pos c_in, hcs, hR]
      change gl_J _ _ _ _ _ _ (Value.ref _ :: _)
      obtain ⟨hv3, hm2, hn8⟩ := hmn s hs (by omega)
      refine j_astore C dX0_step_5 (Nat.le_of_ble_eq_true rfl) (by rw [hnL]; decide) rfl 7 rfl ?_
      refine j_aload C dX0_step_7 rfl 9 rfl ?_
      refine j_iload_n C dX0_step_9 rfl 10 rfl ?_
      refine j_iload_n C dX0_step_10 rfl 11 rfl ?_
      refine j_ci C (cs_X0_287 C (ct_X0_isStep_13 (p := p s) (mn := mn s) (h - 1) (by omega) hP.1 (by rw [hP.2.2.2.1 3 (Or.inl (by decide))]; exact hv3) hm2) rfl (by omega) (by omega) (by omega) rfl (Nat.le_of_ble_eq_true rfl) dX0_step_11) 14 rfl ?_
      rintro _ _ ⟨rfl, rfl⟩
      refine b_if_eq C 32 17 dX0_step_14 (by decide) rfl (fun c_14 => ?_) (fun c_14 => ?_)
      · refine j_iconst (v := nI 0) C dX0_step_32 (by decide) 33 rfl ?_
        exact j_iret C hQ ⟨by rw [if_neg (fun q => by rw [hcs] at q; rw [q.2.2.1, q.2.2.2] at c_14; exact absurd c_14 (by decide))], rfl⟩ (by omega) (by omega) dX0_step_33
      · obtain ⟨z1, z2⟩ := Bool.and_eq_true_iff.mp c_14
        obtain ⟨a0, ha0, rfl⟩ := (gl_in_iff (by omega)).mp z1
        obtain ⟨b0, hb0, rfl⟩ := (gl_in_iff (by decide)).mp z2
        have hca : (nI a0).toNatClampNeg = a0 := nI_clamp (by omega)
        have hcb : (nI b0).toNatClampNeg = b0 := nI_clamp (by omega)
        refine j_aload C dX0_step_17 rfl 19 rfl ?_
        refine gf_X0_190_13 C (x := 0) hP.1 hP.2.1 dX0_step_19 22 rfl ?_
        refine j_iload_n C dX0_step_22 rfl 23 rfl ?_
        refine j_bipush (v := nI 8) C dX0_step_23 (by decide) 25 rfl ?_
        refine n_imul C dX0_step_25 26 rfl ?_
        refine j_iload_n C dX0_step_26 rfl 27 rfl ?_
        refine n_iadd C dX0_step_27 28 rfl ?_
        refine j_iald C hP.2.2.1 (by omega) (by have := hn24 s hs; omega) dX0_step_28 29 rfl ?_
        refine j_goto (tgt := 33) C dX0_step_29 (by decide) ?_
        exact j_iret C hQ ⟨by rw [if_pos ⟨c_in, by rw [hcs]; omega, by rw [hcs]; exact z1, z2⟩, hcs, hca, hcb], rfl⟩ (by omega) (by omega) dX0_step_33
    · obtain ⟨hR, hP⟩ := p3 (by omega)
      rw [hkd] at hP
      have hP : gl_pf _ I L R (p s) (st s) (kl s) (vl s) 14 (v s) (n8 s) (I (st s)) (m s) (ks s) (vs s) := hP
      rw [if_pos c_in, hcs, hR]
      change gl_J _ _ _ _ _ _ (Value.ref _ :: _)
      obtain ⟨hv3, hm2, hn8⟩ := hmn s hs (by omega)
      refine j_astore C dX0_step_5 (Nat.le_of_ble_eq_true rfl) (by rw [hnL]; decide) rfl 7 rfl ?_
      refine j_aload C dX0_step_7 rfl 9 rfl ?_
      refine j_iload_n C dX0_step_9 rfl 10 rfl ?_
      refine j_iload_n C dX0_step_10 rfl 11 rfl ?_
      refine j_ci C (cs_X0_287 C (ct_X0_isStep_14 (p := p s) (mn := mn s) (h - 1) (by omega) hP.1 (by rw [hP.2.2.2.1 3 (Or.inl (by decide))]; exact hv3) hm2) rfl (by omega) (by omega) (by omega) rfl (Nat.le_of_ble_eq_true rfl) dX0_step_11) 14 rfl ?_
      rintro _ _ ⟨rfl, rfl⟩
      refine b_if_eq C 32 17 dX0_step_14 (by decide) rfl (fun c_14 => ?_) (fun c_14 => ?_)
      · refine j_iconst (v := nI 0) C dX0_step_32 (by decide) 33 rfl ?_
        exact j_iret C hQ ⟨by rw [if_neg (fun q => by rw [hcs] at q; rw [q.2.2.1, q.2.2.2] at c_14; exact absurd c_14 (by decide))], rfl⟩ (by omega) (by omega) dX0_step_33
      · obtain ⟨z1, z2⟩ := Bool.and_eq_true_iff.mp c_14
        obtain ⟨a0, ha0, rfl⟩ := (gl_in_iff (by omega)).mp z1
        obtain ⟨b0, hb0, rfl⟩ := (gl_in_iff (by decide)).mp z2
        have hca : (nI a0).toNatClampNeg = a0 := nI_clamp (by omega)
        have hcb : (nI b0).toNatClampNeg = b0 := nI_clamp (by omega)
        refine j_aload C dX0_step_17 rfl 19 rfl ?_
        refine gf_X0_190_14 C (x := 0) hP.1 hP.2.1 dX0_step_19 22 rfl ?_
        refine j_iload_n C dX0_step_22 rfl 23 rfl ?_
        refine j_bipush (v := nI 8) C dX0_step_23 (by decide) 25 rfl ?_
        refine n_imul C dX0_step_25 26 rfl ?_
        refine j_iload_n C dX0_step_26 rfl 27 rfl ?_
        refine n_iadd C dX0_step_27 28 rfl ?_
        refine j_iald C hP.2.2.1 (by omega) (by have := hn24 s hs; omega) dX0_step_28 29 rfl ?_
        refine j_goto (tgt := 33) C dX0_step_29 (by decide) ?_
        exact j_iret C hQ ⟨by rw [if_pos ⟨c_in, by rw [hcs]; omega, by rw [hcs]; exact z1, z2⟩, hcs, hca, hcb], rfl⟩ (by omega) (by omega) dX0_step_33
    · obtain ⟨hR, hP⟩ := p3 (by omega)
      rw [hkd] at hP
      have hP : gl_pf _ I L R (p s) (st s) (kl s) (vl s) 10 (v s) (n8 s) (I (st s)) (m s) (ks s) (vs s) := hP
      rw [if_pos c_in, hcs, hR]
      change gl_J _ _ _ _ _ _ (Value.ref _ :: _)
      obtain ⟨hv3, hm2, hn8⟩ := hmn s hs (by omega)
      refine j_astore C dX0_step_5 (Nat.le_of_ble_eq_true rfl) (by rw [hnL]; decide) rfl 7 rfl ?_
      refine j_aload C dX0_step_7 rfl 9 rfl ?_
      refine j_iload_n C dX0_step_9 rfl 10 rfl ?_
      refine j_iload_n C dX0_step_10 rfl 11 rfl ?_
      refine j_ci C (cs_X0_287 C (ct_X0_isStep_10 (p := p s) (mn := mn s) (h - 1) (by omega) hP.1 (by rw [hP.2.2.2.1 3 (Or.inl (by decide))]; exact hv3) hm2) rfl (by omega) (by omega) (by omega) rfl (Nat.le_of_ble_eq_true rfl) dX0_step_11) 14 rfl ?_
      rintro _ _ ⟨rfl, rfl⟩
      refine b_if_eq C 32 17 dX0_step_14 (by decide) rfl (fun c_14 => ?_) (fun c_14 => ?_)
      · refine j_iconst (v := nI 0) C dX0_step_32 (by decide) 33 rfl ?_
        exact j_iret C hQ ⟨by rw [if_neg (fun q => by rw [hcs] at q; rw [q.2.2.1, q.2.2.2] at c_14; exact absurd c_14 (by decide))], rfl⟩ (by omega) (by omega) dX0_step_33
      · obtain ⟨z1, z2⟩ := Bool.and_eq_true_iff.mp c_14
        obtain ⟨a0, ha0, rfl⟩ := (gl_in_iff (by omega)).mp z1
        obtain ⟨b0, hb0, rfl⟩ := (gl_in_iff (by decide)).mp z2
        have hca : (nI a0).toNatClampNeg = a0 := nI_clamp (by omega)
        have hcb : (nI b0).toNatClampNeg = b0 := nI_clamp (by omega)
        refine j_aload C dX0_step_17 rfl 19 rfl ?_
        refine gf_X0_190_10 C (x := 0) hP.1 hP.2.1 dX0_step_19 22 rfl ?_
        refine j_iload_n C dX0_step_22 rfl 23 rfl ?_
        refine j_bipush (v := nI 8) C dX0_step_23 (by decide) 25 rfl ?_
        refine n_imul C dX0_step_25 26 rfl ?_
        refine j_iload_n C dX0_step_26 rfl 27 rfl ?_
        refine n_iadd C dX0_step_27 28 rfl ?_
        refine j_iald C hP.2.2.1 (by omega) (by have := hn24 s hs; omega) dX0_step_28 29 rfl ?_
        refine j_goto (tgt := 33) C dX0_step_29 (by decide) ?_
        exact j_iret C hQ ⟨by rw [if_pos ⟨c_in, by rw [hcs]; omega, by rw [hcs]; exact z1, z2⟩, hcs, hca, hcb], rfl⟩ (by omega) (by omega) dX0_step_33
set_option maxHeartbeats 4000000 in
set_option maxRecDepth 100000 in
theorem ct_X0_bend {l : Launch} {δ : gl_Del} {Λ : gl_Lay} {I : Nat → Nat → Int32} {L : Nat → Nat → Int64} {B : Nat → Nat → Bool} {R : Nat → Nat → Option Nat} {kd p st kl vl : Nat → Nat} {v : Nat → Nat → Int32} {n8 m : Nat → Nat} {ks : Nat → Nat → Int32} {vs : Nat → Nat → Int64} {mn : Nat → Nat} {x t j mk : Int32} (h : Nat) (hh : 4 ≤ h) (hG : gl_GL Λ R) (P : gl_gS Λ I L R 1 kd p st kl vl v n8 m ks vs) (hmn : ∀ s, s < 16 → kd s ≠ 0 → v s 3 = nI (mn s) ∧ mn s ≤ 256 ∧ n8 s = mn s * 8) (hn24 : ∀ s, s < 16 → n8 s < 2 ^ 24) : gl_Ct l δ yX0_bend (ws_ yX0_bend cX0_bend 6 ((some FieldType.boolean))) (gl_rm h 0 0) 0 0 [.ref 0, .int x, .int t, .int j, .int mk] (Λ, I, L, B, R) (gl_Qi fun r S => r = b2i (decide (gl_in x 16 = true ∧ kd (x.toNatClampNeg) ≠ 0 ∧ gl_in t (mn (x.toNatClampNeg)) = true ∧ gl_in j 8 = true)) ∧ S = if (gl_in x 16 = true ∧ kd (x.toNatClampNeg) ≠ 0 ∧ gl_in t (mn (x.toNatClampNeg)) = true ∧ gl_in j 8 = true) then (Λ, gl_u2 I (st x.toNatClampNeg) (t.toNatClampNeg * 8 + j.toNatClampNeg) (I (st x.toNatClampNeg) (t.toNatClampNeg * 8 + j.toNatClampNeg) ^^^ mk), L, B, R) else (Λ, I, L, B, R)) := by
  refine gl_of (by decide) (Nat.le_of_ble_eq_true rfl) rfl ?_
  intro κ C hQ hlκ hδκ hnL hini
  change gl_Cx κ RX0 _ _ _ at C
  refine j_aload_n C dX0_bend_0 rfl 1 rfl ?_
  refine j_iload_n C dX0_bend_1 rfl 2 rfl ?_
  refine j_cr C (cs_X0_273 C (ct_X0_proofAt (h - 1) (by omega) hG P) hG.o rfl (by omega) (by omega) (by omega) rfl (Nat.le_of_ble_eq_true rfl) dX0_bend_2) 5 rfl ?_
  rintro _ _ ⟨rfl, rfl⟩
  by_cases c_in : gl_in x 16 = true
  rotate_left
  · rw [if_neg c_in]
    change gl_J _ _ _ _ _ _ (Value.null :: _)
    refine j_astoreN C dX0_bend_5 (Nat.le_of_ble_eq_true rfl) (by rw [hnL]; decide) rfl 7 rfl ?_
    refine j_aloadN C dX0_bend_7 rfl 9 rfl ?_
    refine j_iload_n C dX0_bend_9 rfl 10 rfl ?_
    refine j_iload_n C dX0_bend_10 rfl 11 rfl ?_
    refine j_ci C (cs_X0_287 C (ct_X0_isStep_0 (h - 1) (by omega)) rfl (by omega) (by omega) (by omega) rfl (Nat.le_of_ble_eq_true rfl) dX0_bend_11) 14 rfl ?_
    rintro _ _ ⟨rfl, rfl⟩
    refine b_if_ne C 19 17 dX0_bend_14 (by decide) rfl (fun c_14 => ?_) (fun c_14 => ?_)
    · exact absurd c_14 (by decide)
    · refine j_iconst (v := b2i false) C dX0_bend_17 (by decide) 18 rfl ?_
      exact j_zret C hQ ⟨by rw [decide_eq_false (fun q => c_in q.1)], by rw [if_neg (fun q => c_in q.1)]⟩ (by omega) (by omega) dX0_bend_18
  · obtain ⟨s, hs, rfl⟩ := (gl_in_iff (by decide)).mp c_in
    have hcs : (nI s).toNatClampNeg = s := nI_clamp (by omega)
    obtain ⟨p1, p2, p3⟩ := P s hs
    rcases (show kd s = 0 ∨ kd s = 1 ∨ kd s = 2 ∨ kd s = 3 ∨ kd s = 4 ∨ kd s = 5 by omega) with hkd | hkd | hkd | hkd | hkd | hkd
    · have hR := p2 hkd
      rw [if_pos c_in, hcs, hR]
      change gl_J _ _ _ _ _ _ (Value.null :: _)
      refine j_astoreN C dX0_bend_5 (Nat.le_of_ble_eq_true rfl) (by rw [hnL]; decide) rfl 7 rfl ?_
      refine j_aloadN C dX0_bend_7 rfl 9 rfl ?_
      refine j_iload_n C dX0_bend_9 rfl 10 rfl ?_
      refine j_iload_n C dX0_bend_10 rfl 11 rfl ?_
      refine j_ci C (cs_X0_287 C (ct_X0_isStep_0 (h - 1) (by omega)) rfl (by omega) (by omega) (by omega) rfl (Nat.le_of_ble_eq_true rfl) dX0_bend_11) 14 rfl ?_
      rintro _ _ ⟨rfl, rfl⟩
      refine b_if_ne C 19 17 dX0_bend_14 (by decide) rfl (fun c_14 => ?_) (fun c_14 => ?_)
      · exact absurd c_14 (by decide)
      · refine j_iconst (v := b2i false) C dX0_bend_17 (by decide) 18 rfl ?_
        exact j_zret C hQ ⟨by rw [decide_eq_false (fun q => by rw [hcs] at q; exact q.2.1 hkd)], by rw [if_neg (fun q => by rw [hcs] at q; exact q.2.1 hkd)]⟩ (by omega) (by omega) dX0_bend_18
    · obtain ⟨hR, hP⟩ := p3 (by omega)
      rw [hkd] at hP
      have hP : gl_pf _ I L R (p s) (st s) (kl s) (vl s) 11 (v s) (n8 s) (I (st s)) (m s) (ks s) (vs s) := hP
      rw [if_pos c_in, hcs, hR]
      change gl_J _ _ _ _ _ _ (Value.ref _ :: _)
      obtain ⟨hv3, hm2, hn8⟩ := hmn s hs (by omega)
      refine j_astore C dX0_bend_5 (Nat.le_of_ble_eq_true rfl) (by rw [hnL]; decide) rfl 7 rfl ?_
      refine j_aload C dX0_bend_7 rfl 9 rfl ?_
      refine j_iload_n C dX0_bend_9 rfl 10 rfl ?_
      refine j_iload_n C dX0_bend_10 rfl 11 rfl ?_
      refine j_ci C (cs_X0_287 C (ct_X0_isStep_11 (p := p s) (mn := mn s) (h - 1) (by omega) hP.1 (by rw [hP.2.2.2.1 3 (Or.inl (by decide))]; exact hv3) hm2) rfl (by omega) (by omega) (by omega) rfl (Nat.le_of_ble_eq_true rfl) dX0_bend_11) 14 rfl ?_
      rintro _ _ ⟨rfl, rfl⟩
      refine b_if_ne C 19 17 dX0_bend_14 (by decide) rfl (fun c_14 => ?_) (fun c_14 => ?_)
      · obtain ⟨z1, z2⟩ := Bool.and_eq_true_iff.mp c_14
        obtain ⟨a0, ha0, rfl⟩ := (gl_in_iff (by omega)).mp z1
        obtain ⟨b0, hb0, rfl⟩ := (gl_in_iff (by decide)).mp z2
        have hca : (nI a0).toNatClampNeg = a0 := nI_clamp (by omega)
        have hcb : (nI b0).toNatClampNeg = b0 := nI_clamp (by omega)
        refine j_aload C dX0_bend_19 rfl 21 rfl ?_
        refine gf_X0_190_11 C (x := 0) hP.1 hP.2.1 dX0_bend_21 24 rfl ?_
        refine j_iload_n C dX0_bend_24 rfl 25 rfl ?_
        refine j_bipush (v := nI 8) C dX0_bend_25 (by decide) 27 rfl ?_
        refine n_imul C dX0_bend_27 28 rfl ?_
        refine j_iload_n C dX0_bend_28 rfl 29 rfl ?_
        refine n_iadd C dX0_bend_29 30 rfl ?_
        refine j_dup2 C dX0_bend_30 rfl rfl 31 rfl ?_
        refine j_iald C hP.2.2.1 (by omega) (by have := hn24 s hs; omega) dX0_bend_31 32 rfl ?_
        refine j_iload C dX0_bend_32 rfl 34 rfl ?_
        refine j_ixor C dX0_bend_34 35 rfl ?_
        refine j_iast C hP.2.2.1 (by omega) (by have := hn24 s hs; omega) dX0_bend_35 36 rfl ?_
        refine j_iconst (v := b2i true) C dX0_bend_36 (by decide) 37 rfl ?_
        exact j_zret C hQ ⟨by rw [decide_eq_true ⟨c_in, by rw [hcs]; omega, by rw [hcs]; exact z1, z2⟩], by rw [if_pos ⟨c_in, by rw [hcs]; omega, by rw [hcs]; exact z1, z2⟩, hcs, hca, hcb]⟩ (by omega) (by omega) dX0_bend_37
      · refine j_iconst (v := b2i false) C dX0_bend_17 (by decide) 18 rfl ?_
        exact j_zret C hQ ⟨by rw [decide_eq_false (fun q => by rw [hcs] at q; rw [q.2.2.1, q.2.2.2] at c_14; exact absurd c_14 (by decide))], by rw [if_neg (fun q => by rw [hcs] at q; rw [q.2.2.1, q.2.2.2] at c_14; exact absurd c_14 (by decide))]⟩ (by omega) (by omega) dX0_bend_18
    · obtain ⟨hR, hP⟩ := p3 (by omega)
      rw [hkd] at hP
      have hP : gl_pf _ I L R (p s) (st s) (kl s) (vl s) 12 (v s) (n8 s) (I (st s)) (m s) (ks s) (vs s) := hP
      rw [if_pos c_in, hcs, hR]
      change gl_J _ _ _ _ _ _ (Value.ref _ :: _)
      obtain ⟨hv3, hm2, hn8⟩ := hmn s hs (by omega)
      refine j_astore C dX0_bend_5 (Nat.le_of_ble_eq_true rfl) (by rw [hnL]; decide) rfl 7 rfl ?_
      refine j_aload C dX0_bend_7 rfl 9 rfl ?_
      refine j_iload_n C dX0_bend_9 rfl 10 rfl ?_
      refine j_iload_n C dX0_bend_10 rfl 11 rfl ?_
      refine j_ci C (cs_X0_287 C (ct_X0_isStep_12 (p := p s) (mn := mn s) (h - 1) (by omega) hP.1 (by rw [hP.2.2.2.1 3 (Or.inl (by decide))]; exact hv3) hm2) rfl (by omega) (by omega) (by omega) rfl (Nat.le_of_ble_eq_true rfl) dX0_bend_11) 14 rfl ?_
      rintro _ _ ⟨rfl, rfl⟩
      refine b_if_ne C 19 17 dX0_bend_14 (by decide) rfl (fun c_14 => ?_) (fun c_14 => ?_)
      · obtain ⟨z1, z2⟩ := Bool.and_eq_true_iff.mp c_14
        obtain ⟨a0, ha0, rfl⟩ := (gl_in_iff (by omega)).mp z1
        obtain ⟨b0, hb0, rfl⟩ := (gl_in_iff (by decide)).mp z2
        have hca : (nI a0).toNatClampNeg = a0 := nI_clamp (by omega)
        have hcb : (nI b0).toNatClampNeg = b0 := nI_clamp (by omega)
        refine j_aload C dX0_bend_19 rfl 21 rfl ?_
        refine gf_X0_190_12 C (x := 0) hP.1 hP.2.1 dX0_bend_21 24 rfl ?_
        refine j_iload_n C dX0_bend_24 rfl 25 rfl ?_
        refine j_bipush (v := nI 8) C dX0_bend_25 (by decide) 27 rfl ?_
        refine n_imul C dX0_bend_27 28 rfl ?_
        refine j_iload_n C dX0_bend_28 rfl 29 rfl ?_
        refine n_iadd C dX0_bend_29 30 rfl ?_
        refine j_dup2 C dX0_bend_30 rfl rfl 31 rfl ?_
        refine j_iald C hP.2.2.1 (by omega) (by have := hn24 s hs; omega) dX0_bend_31 32 rfl ?_
        refine j_iload C dX0_bend_32 rfl 34 rfl ?_
        refine j_ixor C dX0_bend_34 35 rfl ?_
        refine j_iast C hP.2.2.1 (by omega) (by have := hn24 s hs; omega) dX0_bend_35 36 rfl ?_
        refine j_iconst (v := b2i true) C dX0_bend_36 (by decide) 37 rfl ?_
        exact j_zret C hQ ⟨by rw [decide_eq_true ⟨c_in, by rw [hcs]; omega, by rw [hcs]; exact z1, z2⟩], by rw [if_pos ⟨c_in, by rw [hcs]; omega, by rw [hcs]; exact z1, z2⟩, hcs, hca, hcb]⟩ (by omega) (by omega) dX0_bend_37
      · refine j_iconst (v := b2i false) C dX0_bend_17 (by decide) 18 rfl ?_
        exact j_zret C hQ ⟨by rw [decide_eq_false (fun q => by rw [hcs] at q; rw [q.2.2.1, q.2.2.2] at c_14; exact absurd c_14 (by decide))], by rw [if_neg (fun q => by rw [hcs] at q; rw [q.2.2.1, q.2.2.2] at c_14; exact absurd c_14 (by decide))]⟩ (by omega) (by omega) dX0_bend_18
    · obtain ⟨hR, hP⟩ := p3 (by omega)
      rw [hkd] at hP
      have hP : gl_pf _ I L R (p s) (st s) (kl s) (vl s) 13 (v s) (n8 s) (I (st s)) (m s) (ks s) (vs s) := hP
      rw [if_pos c_in, hcs, hR]
      change gl_J _ _ _ _ _ _ (Value.ref _ :: _)
      obtain ⟨hv3, hm2, hn8⟩ := hmn s hs (by omega)
      refine j_astore C dX0_bend_5 (Nat.le_of_ble_eq_true rfl) (by rw [hnL]; decide) rfl 7 rfl ?_
      refine j_aload C dX0_bend_7 rfl 9 rfl ?_
      refine j_iload_n C dX0_bend_9 rfl 10 rfl ?_
      refine j_iload_n C dX0_bend_10 rfl 11 rfl ?_
      refine j_ci C (cs_X0_287 C (ct_X0_isStep_13 (p := p s) (mn := mn s) (h - 1) (by omega) hP.1 (by rw [hP.2.2.2.1 3 (Or.inl (by decide))]; exact hv3) hm2) rfl (by omega) (by omega) (by omega) rfl (Nat.le_of_ble_eq_true rfl) dX0_bend_11) 14 rfl ?_
      rintro _ _ ⟨rfl, rfl⟩
      refine b_if_ne C 19 17 dX0_bend_14 (by decide) rfl (fun c_14 => ?_) (fun c_14 => ?_)
      · obtain ⟨z1, z2⟩ := Bool.and_eq_true_iff.mp c_14
        obtain ⟨a0, ha0, rfl⟩ := (gl_in_iff (by omega)).mp z1
        obtain ⟨b0, hb0, rfl⟩ := (gl_in_iff (by decide)).mp z2
        have hca : (nI a0).toNatClampNeg = a0 := nI_clamp (by omega)
        have hcb : (nI b0).toNatClampNeg = b0 := nI_clamp (by omega)
        refine j_aload C dX0_bend_19 rfl 21 rfl ?_
        refine gf_X0_190_13 C (x := 0) hP.1 hP.2.1 dX0_bend_21 24 rfl ?_
        refine j_iload_n C dX0_bend_24 rfl 25 rfl ?_
        refine j_bipush (v := nI 8) C dX0_bend_25 (by decide) 27 rfl ?_
        refine n_imul C dX0_bend_27 28 rfl ?_
        refine j_iload_n C dX0_bend_28 rfl 29 rfl ?_
        refine n_iadd C dX0_bend_29 30 rfl ?_
        refine j_dup2 C dX0_bend_30 rfl rfl 31 rfl ?_
        refine j_iald C hP.2.2.1 (by omega) (by have := hn24 s hs; omega) dX0_bend_31 32 rfl ?_
        refine j_iload C dX0_bend_32 rfl 34 rfl ?_
        refine j_ixor C dX0_bend_34 35 rfl ?_
        refine j_iast C hP.2.2.1 (by omega) (by have := hn24 s hs; omega) dX0_bend_35 36 rfl ?_
        refine j_iconst (v := b2i true) C dX0_bend_36 (by decide) 37 rfl ?_
        exact j_zret C hQ ⟨by rw [decide_eq_true ⟨c_in, by rw [hcs]; omega, by rw [hcs]; exact z1, z2⟩], by rw [if_pos ⟨c_in, by rw [hcs]; omega, by rw [hcs]; exact z1, z2⟩, hcs, hca, hcb]⟩ (by omega) (by omega) dX0_bend_37
      · refine j_iconst (v := b2i false) C dX0_bend_17 (by decide) 18 rfl ?_
        exact j_zret C hQ ⟨by rw [decide_eq_false (fun q => by rw [hcs] at q; rw [q.2.2.1, q.2.2.2] at c_14; exact absurd c_14 (by decide))], by rw [if_neg (fun q => by rw [hcs] at q; rw [q.2.2.1, q.2.2.2] at c_14; exact absurd c_14 (by decide))]⟩ (by omega) (by omega) dX0_bend_18
    · obtain ⟨hR, hP⟩ := p3 (by omega)
      rw [hkd] at hP
      have hP : gl_pf _ I L R (p s) (st s) (kl s) (vl s) 14 (v s) (n8 s) (I (st s)) (m s) (ks s) (vs s) := hP
      rw [if_pos c_in, hcs, hR]
      change gl_J _ _ _ _ _ _ (Value.ref _ :: _)
      obtain ⟨hv3, hm2, hn8⟩ := hmn s hs (by omega)
      refine j_astore C dX0_bend_5 (Nat.le_of_ble_eq_true rfl) (by rw [hnL]; decide) rfl 7 rfl ?_
      refine j_aload C dX0_bend_7 rfl 9 rfl ?_
      refine j_iload_n C dX0_bend_9 rfl 10 rfl ?_
      refine j_iload_n C dX0_bend_10 rfl 11 rfl ?_
      refine j_ci C (cs_X0_287 C (ct_X0_isStep_14 (p := p s) (mn := mn s) (h - 1) (by omega) hP.1 (by rw [hP.2.2.2.1 3 (Or.inl (by decide))]; exact hv3) hm2) rfl (by omega) (by omega) (by omega) rfl (Nat.le_of_ble_eq_true rfl) dX0_bend_11) 14 rfl ?_
      rintro _ _ ⟨rfl, rfl⟩
      refine b_if_ne C 19 17 dX0_bend_14 (by decide) rfl (fun c_14 => ?_) (fun c_14 => ?_)
      · obtain ⟨z1, z2⟩ := Bool.and_eq_true_iff.mp c_14
        obtain ⟨a0, ha0, rfl⟩ := (gl_in_iff (by omega)).mp z1
        obtain ⟨b0, hb0, rfl⟩ := (gl_in_iff (by decide)).mp z2
        have hca : (nI a0).toNatClampNeg = a0 := nI_clamp (by omega)
        have hcb : (nI b0).toNatClampNeg = b0 := nI_clamp (by omega)
        refine j_aload C dX0_bend_19 rfl 21 rfl ?_
        refine gf_X0_190_14 C (x := 0) hP.1 hP.2.1 dX0_bend_21 24 rfl ?_
        refine j_iload_n C dX0_bend_24 rfl 25 rfl ?_
        refine j_bipush (v := nI 8) C dX0_bend_25 (by decide) 27 rfl ?_
        refine n_imul C dX0_bend_27 28 rfl ?_
        refine j_iload_n C dX0_bend_28 rfl 29 rfl ?_
        refine n_iadd C dX0_bend_29 30 rfl ?_
        refine j_dup2 C dX0_bend_30 rfl rfl 31 rfl ?_
        refine j_iald C hP.2.2.1 (by omega) (by have := hn24 s hs; omega) dX0_bend_31 32 rfl ?_
        refine j_iload C dX0_bend_32 rfl 34 rfl ?_
        refine j_ixor C dX0_bend_34 35 rfl ?_
        refine j_iast C hP.2.2.1 (by omega) (by have := hn24 s hs; omega) dX0_bend_35 36 rfl ?_
        refine j_iconst (v := b2i true) C dX0_bend_36 (by decide) 37 rfl ?_
        exact j_zret C hQ ⟨by rw [decide_eq_true ⟨c_in, by rw [hcs]; omega, by rw [hcs]; exact z1, z2⟩], by rw [if_pos ⟨c_in, by rw [hcs]; omega, by rw [hcs]; exact z1, z2⟩, hcs, hca, hcb]⟩ (by omega) (by omega) dX0_bend_37
      · refine j_iconst (v := b2i false) C dX0_bend_17 (by decide) 18 rfl ?_
        exact j_zret C hQ ⟨by rw [decide_eq_false (fun q => by rw [hcs] at q; rw [q.2.2.1, q.2.2.2] at c_14; exact absurd c_14 (by decide))], by rw [if_neg (fun q => by rw [hcs] at q; rw [q.2.2.1, q.2.2.2] at c_14; exact absurd c_14 (by decide))]⟩ (by omega) (by omega) dX0_bend_18
    · obtain ⟨hR, hP⟩ := p3 (by omega)
      rw [hkd] at hP
      have hP : gl_pf _ I L R (p s) (st s) (kl s) (vl s) 10 (v s) (n8 s) (I (st s)) (m s) (ks s) (vs s) := hP
      rw [if_pos c_in, hcs, hR]
      change gl_J _ _ _ _ _ _ (Value.ref _ :: _)
      obtain ⟨hv3, hm2, hn8⟩ := hmn s hs (by omega)
      refine j_astore C dX0_bend_5 (Nat.le_of_ble_eq_true rfl) (by rw [hnL]; decide) rfl 7 rfl ?_
      refine j_aload C dX0_bend_7 rfl 9 rfl ?_
      refine j_iload_n C dX0_bend_9 rfl 10 rfl ?_
      refine j_iload_n C dX0_bend_10 rfl 11 rfl ?_
      refine j_ci C (cs_X0_287 C (ct_X0_isStep_10 (p := p s) (mn := mn s) (h - 1) (by omega) hP.1 (by rw [hP.2.2.2.1 3 (Or.inl (by decide))]; exact hv3) hm2) rfl (by omega) (by omega) (by omega) rfl (Nat.le_of_ble_eq_true rfl) dX0_bend_11) 14 rfl ?_
      rintro _ _ ⟨rfl, rfl⟩
      refine b_if_ne C 19 17 dX0_bend_14 (by decide) rfl (fun c_14 => ?_) (fun c_14 => ?_)
      · obtain ⟨z1, z2⟩ := Bool.and_eq_true_iff.mp c_14
        obtain ⟨a0, ha0, rfl⟩ := (gl_in_iff (by omega)).mp z1
        obtain ⟨b0, hb0, rfl⟩ := (gl_in_iff (by decide)).mp z2
        have hca : (nI a0).toNatClampNeg = a0 := nI_clamp (by omega)
        have hcb : (nI b0).toNatClampNeg = b0 := nI_clamp (by omega)
        refine j_aload C dX0_bend_19 rfl 21 rfl ?_
        refine gf_X0_190_10 C (x := 0) hP.1 hP.2.1 dX0_bend_21 24 rfl ?_
        refine j_iload_n C dX0_bend_24 rfl 25 rfl ?_
        refine j_bipush (v := nI 8) C dX0_bend_25 (by decide) 27 rfl ?_
        refine n_imul C dX0_bend_27 28 rfl ?_
        refine j_iload_n C dX0_bend_28 rfl 29 rfl ?_
        refine n_iadd C dX0_bend_29 30 rfl ?_
        refine j_dup2 C dX0_bend_30 rfl rfl 31 rfl ?_
        refine j_iald C hP.2.2.1 (by omega) (by have := hn24 s hs; omega) dX0_bend_31 32 rfl ?_
        refine j_iload C dX0_bend_32 rfl 34 rfl ?_
        refine j_ixor C dX0_bend_34 35 rfl ?_
        refine j_iast C hP.2.2.1 (by omega) (by have := hn24 s hs; omega) dX0_bend_35 36 rfl ?_
        refine j_iconst (v := b2i true) C dX0_bend_36 (by decide) 37 rfl ?_
        exact j_zret C hQ ⟨by rw [decide_eq_true ⟨c_in, by rw [hcs]; omega, by rw [hcs]; exact z1, z2⟩], by rw [if_pos ⟨c_in, by rw [hcs]; omega, by rw [hcs]; exact z1, z2⟩, hcs, hca, hcb]⟩ (by omega) (by omega) dX0_bend_37
      · refine j_iconst (v := b2i false) C dX0_bend_17 (by decide) 18 rfl ?_
        exact j_zret C hQ ⟨by rw [decide_eq_false (fun q => by rw [hcs] at q; rw [q.2.2.1, q.2.2.2] at c_14; exact absurd c_14 (by decide))], by rw [if_neg (fun q => by rw [hcs] at q; rw [q.2.2.1, q.2.2.2] at c_14; exact absurd c_14 (by decide))]⟩ (by omega) (by omega) dX0_bend_18
