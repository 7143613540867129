/-! MODULE GlassLog, heads: blames, take, talk (by gen83.py) -/
set_option maxRecDepth 100000
/-- two heads were blamed -/
def gl_blP (I I' : Nat → Nat → Int32) (B B' : Nat → Nat → Bool) (bm a b : Nat) : Prop := if bm = 60 then I' = I ∧ B' = B else I' 1 = va_up (I 1) 7 (nI (bm + 1)) ∧ (∀ f q, gl_hr I a f q → gl_hr I' (1 + 185 + 4 * (2 * bm)) f q) ∧ (∀ f q, gl_hr I b f q → gl_hr I' (1 + 185 + 4 * (2 * bm + 1)) f q) ∧ (∀ c, c ≠ 1 → (c < 186 + 8 * bm ∨ 194 + 8 * bm ≤ c) → I' c = I c) ∧ ∀ c, (c < 186 + 8 * bm ∨ 194 + 8 * bm ≤ c) → B' c = B c
/-- the numbers of the readers' heads -/
def gl_gH (I : Nat → Nat → Int32) (B : Nat → Nat → Bool) (lm : Nat) (mn hn hl : Nat → Nat) : Prop := ∀ k, k < 12 → B (1 + 137 + 4 * k) 6 = true → I (1 + 137 + 4 * k) 3 = nI (hn k) ∧ I (1 + 137 + 4 * k) 4 = nI (hl k) ∧ hl k < lm ∧ hn k ≤ mn (hl k)
set_option maxHeartbeats 4000000 in
set_option maxRecDepth 100000 in
theorem ct_X0_blames {l : Launch} {δ : gl_Del} {Λ : gl_Lay} {I : Nat → Nat → Int32} {L : Nat → Nat → Int64} {B : Nat → Nat → Bool} {R : Nat → Nat → Option Nat} {a b bm : Nat} (h : Nat) (hh : 2 ≤ h) (hG : gl_GL Λ R) (hbm : I 1 7 = nI bm) (hb6 : bm ≤ 60) (ha : gl_DL Λ R a) (hra : a + 4 ≤ 186 ∨ a = 701) (hb : gl_DL Λ R b) (hrb : b + 4 ≤ 186 ∨ b = 701) (ha1 : 138 ≤ a) (hb1 : 138 ≤ b) : gl_Ct l δ yX0_blames (ws_ yX0_blames cX0_blames 3 none) (gl_rm h 0 0) 0 0 [.ref 0, .ref a, .ref b] (Λ, I, L, B, R) (gl_Qv fun S => ∃ I' B', S = (Λ, I', L, B', R) ∧ gl_blP I I' B B' bm a b) := by
  refine gl_of (by decide) (Nat.le_of_ble_eq_true rfl) rfl ?_
  intro κ C hQ hlκ hδκ hnL hini
  change gl_Cx κ RX0 _ _ _ at C
  refine j_aload_n C dX0_blames_0 rfl 1 rfl ?_
  refine gf_X0_12 C hG.o hG.r0 dX0_blames_1 4 rfl ?_
  refine gf_X0_321 C hG.hs.o dX0_blames_4 7 rfl ?_
  rw [hbm]
  refine j_bipush (v := nI 60) C dX0_blames_7 (by decide) 9 rfl ?_
  refine n_icmp_ne C 13 12 dX0_blames_9 (by decide) rfl (by omega) (by omega) (fun c_9 => ?_) (fun c_9 => ?_)
  · have hD0 := hG.hs.bd (2 * bm) (by omega)
    have hD1 := hG.hs.bd (2 * bm + 1) (by omega)
    refine j_aload_n C dX0_blames_13 rfl 14 rfl ?_
    refine gf_X0_12 C hG.o hG.r0 dX0_blames_14 17 rfl ?_
    refine gf_X0_324 C hG.hs.o hG.hs.r3 dX0_blames_17 20 rfl ?_
    refine j_iconst (v := nI 2) C dX0_blames_20 (by decide) 21 rfl ?_
    refine j_aload_n C dX0_blames_21 rfl 22 rfl ?_
    refine gf_X0_12 C hG.o hG.r0 dX0_blames_22 25 rfl ?_
    refine gf_X0_321 C hG.hs.o dX0_blames_25 28 rfl ?_
    rw [hbm]
    refine n_imul C dX0_blames_28 29 rfl ?_
    refine j_aald C (by decide) hG.hs.k4 (by omega) (by decide) dX0_blames_29 30 rfl ?_
    rw [hG.hs.br (2 * bm) (by omega)]
    change gl_J _ _ _ _ _ _ (Value.ref _ :: _)
    refine j_aload_n C dX0_blames_30 rfl 31 rfl ?_
    refine j_cv C (cs_X0_327 C (ct_X4_become (d := (1 + 185 + 4 * (2 * bm))) (e := a) (h - 1) (by omega) hD0 ha (by omega)) (x := 0) hD0.o rfl (by omega) (by omega) (by omega) rfl (Nat.le_of_ble_eq_true rfl) dX0_blames_31) 34 rfl ?_
    rintro _ ⟨I1, B1, rfl, h1⟩
    have e1 : I1 1 = I 1 := h1.1 1 (by omega)
    refine j_aload_n C dX0_blames_34 rfl 35 rfl ?_
    refine gf_X0_12 C hG.o hG.r0 dX0_blames_35 38 rfl ?_
    refine gf_X0_324 C hG.hs.o hG.hs.r3 dX0_blames_38 41 rfl ?_
    refine j_iconst (v := nI 2) C dX0_blames_41 (by decide) 42 rfl ?_
    refine j_aload_n C dX0_blames_42 rfl 43 rfl ?_
    refine gf_X0_12 C hG.o hG.r0 dX0_blames_43 46 rfl ?_
    refine gf_X0_321 C hG.hs.o dX0_blames_46 49 rfl ?_
    rw [e1, hbm]
    refine n_imul C dX0_blames_49 50 rfl ?_
    refine j_iconst (v := nI 1) C dX0_blames_50 (by decide) 51 rfl ?_
    refine n_iadd C dX0_blames_51 52 rfl ?_
    refine j_aald C (by decide) hG.hs.k4 (by omega) (by decide) dX0_blames_52 53 rfl ?_
    rw [hG.hs.br (2 * bm + 1) (by omega)]
    change gl_J _ _ _ _ _ _ (Value.ref _ :: _)
    refine j_aload_n C dX0_blames_53 rfl 54 rfl ?_
    refine j_cv C (cs_X0_327 C (ct_X4_become (I := I1) (d := (1 + 185 + 4 * (2 * bm + 1))) (e := b) (h - 1) (by omega) hD1 hb (by omega)) (x := 0) hD1.o rfl (by omega) (by omega) (by omega) rfl (Nat.le_of_ble_eq_true rfl) dX0_blames_54) 57 rfl ?_
    rintro _ ⟨I2, B2, rfl, h2⟩
    have e2 : I2 1 = I 1 := (h2.1 1 (by omega)).trans e1
    refine j_aload_n C dX0_blames_57 rfl 58 rfl ?_
    refine gf_X0_12 C hG.o hG.r0 dX0_blames_58 61 rfl ?_
    refine j_dup C dX0_blames_61 rfl 62 rfl ?_
    refine gf_X0_321 C hG.hs.o dX0_blames_62 65 rfl ?_
    rw [e2, hbm]
    refine j_iconst (v := nI 1) C dX0_blames_65 (by decide) 66 rfl ?_
    refine n_iadd C dX0_blames_66 67 rfl ?_
    refine pf_X0_321 C hG.hs.o dX0_blames_67 70 rfl ?_
    exact j_ret C hQ ⟨_, _, rfl, by
          rw [gl_blP, if_neg c_9]
          refine ⟨by rw [gl_u2_eq, e2], fun f q hh_ => ?_, fun f q hh_ => ?_, fun c q1 q2 => ?_, fun c q2 => ?_⟩
          · refine gl_hr.of_eq ((hh_.bec h1).of_eq (I' := I2) (fun c q1 q2 => h2.1 c (by omega))) (fun c q1 q2 => gl_u2_ne (by omega))
          · refine gl_hr.of_eq ((hh_.of_eq (I' := I1) (fun c q1 q2 => h1.1 c (by omega))).bec h2) (fun c q1 q2 => gl_u2_ne (by omega))
          · rw [gl_u2_ne q1, h2.1 c (by omega), h1.1 c (by omega)]
          · rw [h2.2.2.2, gl_u2_ne (by omega), h1.2.2.2, gl_u2_ne (by omega)]⟩ (by omega) (by omega) dX0_blames_70
  · exact j_ret C hQ ⟨_, _, rfl, by rw [gl_blP, if_pos c_9]; exact ⟨rfl, rfl⟩⟩ (by omega) (by omega) dX0_blames_12
/-- a head came to a reader -/
def gl_tB (I I' : Nat → Nat → Int32) (B B' : Nat → Nat → Bool) (d : Nat) (A : Nat → Int32) : Prop := gl_hr I' d A 0 ∧ B' d 6 = true ∧ (∀ c, c < 690 ∨ 707 ≤ c → (c < d ∨ d + 4 ≤ c) → I' c = I c) ∧ ∀ c, c < 690 ∨ 707 ≤ c → c ≠ d → B' c = B c
/-- two heads were blamed, by some readers -/
def gl_tL (I I' : Nat → Nat → Int32) (B B' : Nat → Nat → Bool) (bm d : Nat) (A : Nat → Int32) (bl : Nat → Int32) : Prop := I' 7 = bl ∧ (if bm = 60 then I' 1 = I 1 ∧ (∀ c, c < 690 ∨ 707 ≤ c → c ≠ 7 → I' c = I c) ∧ ∀ c, c < 690 ∨ 707 ≤ c → B' c = B c else I' 1 = va_up (I 1) 7 (nI (bm + 1)) ∧ (∀ f q, gl_hr I d f q → gl_hr I' (1 + 185 + 4 * (2 * bm)) f q) ∧ gl_hr I' (1 + 185 + 4 * (2 * bm + 1)) A 0 ∧ (∀ c, c < 690 ∨ 707 ≤ c → c ≠ 1 → c ≠ 7 → (c < 186 + 8 * bm ∨ 194 + 8 * bm ≤ c) → I' c = I c) ∧ ∀ c, c < 690 ∨ 707 ≤ c → (c < 186 + 8 * bm ∨ 194 + 8 * bm ≤ c) → B' c = B c)
/-- take: which of its ends -/
def gl_gT (I : Nat → Nat → Int32) (L : Nat → Nat → Int64) (B : Nat → Nat → Bool) (hn hl : Nat → Nat) (k lg m : Nat) (t u : Nat → Int32) : Nat := if B (1 + 137 + 4 * k) 6 = true ∧ I (1 + 137 + 4 * k) 5 = I (1 + 7 + 19 * lg) 8 then (if gl_gA I L (hn k) m (hl k) lg (I (1 + 137 + 4 * k + 1)) (I (1 + 137 + 4 * k + 2)) t u = true then (if m ≤ hn k then 1 else 2) else 0) else 2
def gl_gTP (I I' : Nat → Nat → Int32) (B B' : Nat → Nat → Bool) (bm k : Nat) (A : Nat → Int32) (r : Int32) : Nat → Prop
  | 0 => r = nI 0 ∧ gl_tL I I' B B' bm (1 + 137 + 4 * k) A (va_up (I 7) k (I 7 k + 1))
  | 1 => r = nI 1 ∧ gl_xs I I' B B'
  | _ => r = nI 1 ∧ gl_tB I I' B B' (1 + 137 + 4 * k) A
theorem gl_gA_congr {I I' : Nat → Nat → Int32} {L : Nat → Nat → Int64} {na nb la lb : Nat} {ta ua tb ub ta' ua' tb' ub' : Nat → Int32} (hI : ∀ c, c < 690 → I' c = I c) (hla : la < 6) (hlb : lb < 6) (h1 : ∀ t, t < 8 → ta t = ta' t) (h2 : ∀ t, t < 8 → ua t = ua' t) (h3 : ∀ t, t < 8 → tb t = tb' t) (h4 : ∀ t, t < 8 → ub t = ub' t) : gl_gA I' L na nb la lb ta ua tb ub = gl_gA I L na nb la lb ta' ua' tb' ub' := by
  unfold gl_gA gl_gO
  rw [hI (1 + 7 + 19 * la + 1) (by omega), hI (1 + 7 + 19 * lb + 1) (by omega), gl_lk_congr 8 h1 h3, gl_lk_congr 8 h2 h4, gl_lk_congr (f := gl_top _) (g := ta) (g' := ta') 8 (fun _ _ => rfl) h1, gl_lk_congr (f := gl_top (gl_ll _ nb _ _ _)) (g := tb) (g' := tb') 8 (fun _ _ => rfl) h3, gl_lk_congr (f := gl_top (gl_ll _ nb nb 0 [])) (g := tb) (g' := tb') 8 (fun _ _ => rfl) h3, gl_lk_congr (f := gl_top (gl_ll _ na (na - nb) nb _)) (g := ta) (g' := ta') 8 (fun _ _ => rfl) h1]
set_option maxHeartbeats 4000000 in
set_option maxRecDepth 100000 in
theorem ct_X0_take {l : Launch} {δ : gl_Del} {Λ : gl_Lay} {I : Nat → Nat → Int32} {L : Nat → Nat → Int64} {B : Nat → Nat → Bool} {R : Nat → Nat → Option Nat} {lm : Nat} {mn wn : Nat → Nat} {sn : Nat → Nat → Nat} {bm : Nat} {hn hl : Nat → Nat} {x y n : Int32} (h : Nat) (hh : 265 ≤ h) (hG : gl_GL Λ R) (H : gl_gL I 1 lm mn wn sn) (hsm : ∀ k, k < lm → gl_sm I (1 + 7 + 19 * k) (I (1 + 7 + 19 * k + 1)) (L (1 + 7 + 19 * k + 4)) (mn k)) (hbm : I 1 7 = nI bm) (hb6 : bm ≤ 60) (HH : gl_gH I B lm mn hn hl) : gl_Ct l δ yX0_take (ws_ yX0_take cX0_take 6 ((some FieldType.int))) (gl_rm h 0 0) 0 0 [.ref 0, .int x, .int y, .int n] (Λ, I, L, B, R) (gl_Qi fun r S => if gl_in x 12 = true ∧ gl_gic lm mn y n = true then ∃ mp, gl_mq (I ((1 + 7 + 19 * y.toNatClampNeg) + 1)) (I ((1 + 7 + 19 * y.toNatClampNeg) + 2)) (sn y.toNatClampNeg) (B ((1 + 7 + 19 * y.toNatClampNeg) + 7)) (wn y.toNatClampNeg) n.toNatClampNeg mp ∧ ∃ I' B', S = (Λ, I', L, B', R) ∧ gl_gTP I I' B B' bm x.toNatClampNeg (gl_ask (nI n.toNatClampNeg) (nI y.toNatClampNeg) (I (1 + 7 + 19 * y.toNatClampNeg) 8) (gl_ltop (fun i => I ((1 + 7 + 19 * y.toNatClampNeg) + 1) i) (fun i => L ((1 + 7 + 19 * y.toNatClampNeg) + 4) i) n.toNatClampNeg) (gl_mtree mp)) r (gl_gT I L B hn hl x.toNatClampNeg y.toNatClampNeg n.toNatClampNeg (gl_ltop (fun i => I ((1 + 7 + 19 * y.toNatClampNeg) + 1) i) (fun i => L ((1 + 7 + 19 * y.toNatClampNeg) + 4) i) n.toNatClampNeg) (gl_mtree mp)) else r = -1 ∧ S = (Λ, I, L, B, R)) := by
  refine gl_of (by decide) (Nat.le_of_ble_eq_true rfl) rfl ?_
  intro κ C hQ hlκ hδκ hnL hini
  change gl_Cx κ RX0 _ _ _ at C
  refine j_iload_n C dX0_take_0 rfl 1 rfl ?_
  refine j_ci C (cs_X0_299 C (ct_X0_isReader (h - 1) (by omega)) rfl (by omega) (by omega) (by omega) rfl (Nat.le_of_ble_eq_true rfl) dX0_take_1) 4 rfl ?_
  rintro _ _ ⟨rfl, rfl⟩
  refine b_if_eq C 16 7 dX0_take_4 (by decide) rfl (fun c_4 => ?_) (fun c_4 => ?_)
  · refine j_iconst (v := -1) C dX0_take_16 (by decide) 17 rfl ?_
    exact j_iret C hQ (by rw [if_neg (fun q => by rw [c_4] at q; exact absurd q.1 (by decide))]; exact ⟨rfl, rfl⟩) (by omega) (by omega) dX0_take_17
  · refine j_aload_n C dX0_take_7 rfl 8 rfl ?_
    refine j_iload_n C dX0_take_8 rfl 9 rfl ?_
    refine j_iload_n C dX0_take_9 rfl 10 rfl ?_
    refine j_ci C (cs_X0_84 C (ct_X0_isCount (h - 1) (by omega) hG H) hG.o rfl (by omega) (by omega) (by omega) rfl (Nat.le_of_ble_eq_true rfl) dX0_take_10) 13 rfl ?_
    rintro _ _ ⟨rfl, rfl⟩
    refine b_if_ne C 18 16 dX0_take_13 (by decide) rfl (fun c_13 => ?_) (fun c_13 => ?_)
    · obtain ⟨lg, m, hlg, hmm, rfl, rfl⟩ := (gl_gic_iff H.2.1 (fun k hk => (H.2.2 k hk).2.1)).mp c_13
      have hl6 := H.2.1
      have hL := hG.hs.lg lg (by omega)
      obtain ⟨hn9, hn4, hw10, hw1, hsn⟩ := H.2.2 lg hlg
      have hcl : (nI lg).toNatClampNeg = lg := nI_clamp (by omega)
      have hcm : (nI m).toNatClampNeg = m := nI_clamp (by omega)
      obtain ⟨k, hk_, rfl⟩ := (gl_in_iff (by decide)).mp c_4
      have hD := hG.hs.hd k hk_
      have hck : (nI k).toNatClampNeg = k := nI_clamp (by omega)
      refine j_aload_n C dX0_take_18 rfl 19 rfl ?_
      refine j_iload_n C dX0_take_19 rfl 20 rfl ?_
      refine j_iload_n C dX0_take_20 rfl 21 rfl ?_
      refine j_cr C (cs_X0_157 C (ct_X0_headOf (h - 1) (by omega) hG H hlg hmm (hsm lg hlg)) hG.o rfl (by omega) (by omega) (by omega) rfl (Nat.le_of_ble_eq_true rfl) dX0_take_21) 24 rfl ?_
      rintro _ _ ⟨rfl, mp, I1, rfl, hf1, hq1, hh1⟩
      have hIx : ∀ c, c < 690 → I1 c = I c := fun c hc => hf1 c (by omega)
      have hBx : ∀ c, c ≠ 701 → gl_u2 B 701 6 true c = B c := fun c hc => gl_u2_ne hc
      have hH1 : gl_gL I1 1 lm mn wn sn := ⟨by rw [hIx 1 (by omega)]; exact H.1, H.2.1, fun j hj => by
        rw [hIx (1 + 7 + 19 * j) (by omega), hIx (1 + 7 + 19 * j + 3) (by omega)]
        exact H.2.2 j hj⟩
      have hsm1 : ∀ j, j < lm → gl_sm I1 (1 + 7 + 19 * j) (I1 (1 + 7 + 19 * j + 1)) (L (1 + 7 + 19 * j + 4)) (mn j) := fun j hj => by
        rw [hIx (1 + 7 + 19 * j + 1) (by omega)]
        exact gl_sm_fr (hsm j hj) (by have := (H.2.2 j hj).2.1; omega) (fun r hr => hIx _ (by omega))
      have hat : ∀ t, t < 8 → I1 (701 + 1) t = (gl_ltop (fun i => I ((1 + 7 + 19 * lg) + 1) i) (fun i => L ((1 + 7 + 19 * lg) + 4) i) m) t := fun t ht => by
        rw [(hh1.2.2.2 t ht).1]; unfold gl_ask
        rw [if_neg (by omega), if_neg (by omega), if_neg (by omega), if_neg (by omega), if_pos (by omega), show 0 + 4 + t - 4 = t by omega]
      have hau : ∀ t, t < 8 → I1 (701 + 2) t = gl_mtree mp t := fun t ht => by
        rw [(hh1.2.2.2 t ht).2.1]; unfold gl_ask
        rw [if_neg (by omega), if_neg (by omega), if_neg (by omega), if_neg (by omega), if_neg (by omega), if_pos (by omega), show 0 + 12 + t - 12 = t by omega]
      have ha3 : I1 701 3 = nI m := hh1.1
      have ha4 : I1 701 4 = nI lg := hh1.2.1
      have ha5 : I1 701 5 = I (1 + 7 + 19 * lg) 8 := hh1.2.2.1
      have h1x : ∀ c, c < 690 ∨ 707 ≤ c → I1 c = I c := fun c q => hf1 c (by omega)
      have hA_h1 : gl_hr I1 701 (gl_ask (nI m) (nI lg) (I (1 + 7 + 19 * lg) 8) (gl_ltop (fun i => I ((1 + 7 + 19 * lg) + 1) i) (fun i => L ((1 + 7 + 19 * lg) + 4) i) m) (gl_mtree mp)) 0 := hh1
      refine j_astore C dX0_take_24 (Nat.le_of_ble_eq_true rfl) (by rw [hnL]; decide) rfl 26 rfl ?_
      refine j_aload_n C dX0_take_26 rfl 27 rfl ?_
      refine gf_X0_12 C hG.o hG.r0 dX0_take_27 30 rfl ?_
      refine gf_X0_302 C hG.hs.o hG.hs.r2 dX0_take_30 33 rfl ?_
      refine j_iload_n C dX0_take_33 rfl 34 rfl ?_
      refine j_aald C (by decide) hG.hs.k3 (by omega) (by decide) dX0_take_34 35 rfl ?_
      rw [hG.hs.hr k (by omega)]
      change gl_J _ _ _ _ _ _ (Value.ref _ :: _)
      refine j_astore C dX0_take_35 (Nat.le_of_ble_eq_true rfl) (by rw [hnL]; decide) rfl 37 rfl ?_
      refine j_aload C dX0_take_37 rfl 39 rfl ?_
      refine gf_X0_121 C hD.o dX0_take_39 42 rfl ?_
      refine b_if_eq C 58 45 dX0_take_42 (by decide) rfl (fun c_42 => ?_) (fun c_42 => ?_)
      · refine j_aload C dX0_take_58 rfl 60 rfl ?_
        refine j_aload C dX0_take_60 rfl 62 rfl ?_
        refine j_cv C (cs_X0_327 C (ct_X4_become (d := (1 + 137 + 4 * k)) (e := 701) (h - 1) (by omega) hD hG.ak (by omega)) hD.o rfl (by omega) (by omega) (by omega) rfl (Nat.le_of_ble_eq_true rfl) dX0_take_62) 65 rfl ?_
        rintro _ ⟨I3, B3, rfl, h3⟩
        refine j_iconst (v := nI 1) C dX0_take_65 (by decide) 66 rfl ?_
        exact j_iret C hQ (by rw [if_pos ⟨c_4, c_13⟩, hck, hcl, hcm]; exact ⟨mp, hq1, _, _, rfl, by rw [show gl_gT I L B hn hl k lg m (gl_ltop (fun i => I ((1 + 7 + 19 * lg) + 1) i) (fun i => L ((1 + 7 + 19 * lg) + 4) i) m) (gl_mtree mp) = 2 from by rw [gl_gT, if_neg (fun q => by rw [hBx _ (by omega)] at c_42; rw [c_42] at q; exact absurd q.1 (by decide))]]; exact ⟨rfl, ⟨(hA_h1).bec h3, by rw [h3.2.2.2, gl_u2_eq, gl_up_eq, gl_u2_eq, gl_up_eq], fun c q1 q2 => by rw [h3.1 c q2, h1x c (by omega)], fun c q1 q2 => by rw [h3.2.2.2, gl_u2_ne q2, hBx c (by omega)]⟩⟩⟩) (by omega) (by omega) dX0_take_66
      · refine j_aload C dX0_take_45 rfl 47 rfl ?_
        refine gf_X0_131 C hD.o dX0_take_47 50 rfl ?_
        refine j_aload C dX0_take_50 rfl 52 rfl ?_
        refine gf_X0_131 C hG.ak.o dX0_take_52 55 rfl ?_
        refine j_icmp_eq C 67 58 dX0_take_55 (by decide) rfl (fun c_55 => ?_) (fun c_55 => ?_)
        · have hB6 : B (1 + 137 + 4 * k) 6 = true := (by rw [hBx _ (by omega)] at c_42; exact c_42)
          have hk5 : I (1 + 137 + 4 * k) 5 = I (1 + 7 + 19 * lg) 8 := (by rw [hIx (1 + 137 + 4 * k) (by omega), ha5] at c_55; exact c_55)
          obtain ⟨g1, g2, g3, g4⟩ := HH k hk_ hB6
          refine j_aload_n C dX0_take_67 rfl 68 rfl ?_
          refine j_aload C dX0_take_68 rfl 70 rfl ?_
          refine j_aload C dX0_take_70 rfl 72 rfl ?_
          refine j_ci C (cs_X0_313 C (ct_X0_agree (I := I1) (a := (1 + 137 + 4 * k)) (b := 701) (na := hn k) (nb := m) (la := hl k) (lb := lg) (h - 1) (by omega) hG hH1 hsm1 hD (by omega) (by rw [hIx _ (by omega)]; exact g1) (by rw [hIx _ (by omega)]; exact g2) g3 g4 hG.ak (Or.inr rfl) ha3 ha4 hlg hmm) hG.o rfl (by omega) (by omega) (by omega) rfl (Nat.le_of_ble_eq_true rfl) dX0_take_72) 75 rfl ?_
          rintro _ _ ⟨rfl, I2, rfl, h2⟩
          have hag : gl_gA I1 L (hn k) m (hl k) lg (I1 ((1 + 137 + 4 * k) + 1)) (I1 ((1 + 137 + 4 * k) + 2)) (I1 (701 + 1)) (I1 (701 + 2)) = gl_gA I L (hn k) m (hl k) lg (I ((1 + 137 + 4 * k) + 1)) (I ((1 + 137 + 4 * k) + 2)) (gl_ltop (fun i => I ((1 + 7 + 19 * lg) + 1) i) (fun i => L ((1 + 7 + 19 * lg) + 4) i) m) (gl_mtree mp) := gl_gA_congr (fun c hc => hIx c hc) (by omega) (by omega) (fun t _ => by rw [hIx _ (by omega)]) (fun t _ => by rw [hIx _ (by omega)]) hat hau
          rw [hag]
          have h2x : ∀ c, c < 690 ∨ 707 ≤ c → I2 c = I c := fun c q => by rw [h2 c (by omega)]; exact hf1 c (by omega)
          have hA_h2 : gl_hr I2 701 (gl_ask (nI m) (nI lg) (I (1 + 7 + 19 * lg) 8) (gl_ltop (fun i => I ((1 + 7 + 19 * lg) + 1) i) (fun i => L ((1 + 7 + 19 * lg) + 4) i) m) (gl_mtree mp)) 0 := hh1.of_eq (fun c q1 q2 => h2 c (by omega))
          refine b_if_ne C 101 78 dX0_take_75 (by decide) rfl (fun c_75 => ?_) (fun c_75 => ?_)
          · refine j_aload C dX0_take_101 rfl 103 rfl ?_
            refine gf_X0_125 C hG.ak.o dX0_take_103 106 rfl ?_
            rw [show I2 701 3 = nI m from (congrFun (h2 701 (by omega)) 3).trans ha3]
            refine j_aload C dX0_take_106 rfl 108 rfl ?_
            refine gf_X0_125 C hD.o dX0_take_108 111 rfl ?_
            rw [show I2 (1 + 137 + 4 * k) 3 = nI (hn k) from (congrFun (h2x (1 + 137 + 4 * k) (by omega)) 3).trans g1]
            refine n_icmp_le C 121 114 dX0_take_111 (by decide) rfl (by omega) (by have := (H.2.2 (hl k) g3).2.1; omega) (fun c_111 => ?_) (fun c_111 => ?_)
            · refine j_iconst (v := nI 1) C dX0_take_121 (by decide) 122 rfl ?_
              exact j_iret C hQ (by rw [if_pos ⟨c_4, c_13⟩, hck, hcl, hcm]; exact ⟨mp, hq1, _, _, rfl, by rw [show gl_gT I L B hn hl k lg m (gl_ltop (fun i => I ((1 + 7 + 19 * lg) + 1) i) (fun i => L ((1 + 7 + 19 * lg) + 4) i) m) (gl_mtree mp) = 1 from by rw [gl_gT, if_pos ⟨hB6, hk5⟩, if_pos c_75, if_pos c_111]]; exact ⟨rfl, fun c q => h2x c q, fun c q => hBx c (by omega)⟩⟩) (by omega) (by omega) dX0_take_122
            · refine j_aload C dX0_take_114 rfl 116 rfl ?_
              refine j_aload C dX0_take_116 rfl 118 rfl ?_
              refine j_cv C (cs_X0_327 C (ct_X4_become (d := (1 + 137 + 4 * k)) (e := 701) (h - 1) (by omega) hD hG.ak (by omega)) hD.o rfl (by omega) (by omega) (by omega) rfl (Nat.le_of_ble_eq_true rfl) dX0_take_118) 121 rfl ?_
              rintro _ ⟨I3, B3, rfl, h3⟩
              refine j_iconst (v := nI 1) C dX0_take_121 (by decide) 122 rfl ?_
              exact j_iret C hQ (by rw [if_pos ⟨c_4, c_13⟩, hck, hcl, hcm]; exact ⟨mp, hq1, _, _, rfl, by rw [show gl_gT I L B hn hl k lg m (gl_ltop (fun i => I ((1 + 7 + 19 * lg) + 1) i) (fun i => L ((1 + 7 + 19 * lg) + 4) i) m) (gl_mtree mp) = 2 from by rw [gl_gT, if_pos ⟨hB6, hk5⟩, if_pos c_75, if_neg (by omega)]]; exact ⟨rfl, ⟨(hA_h2).bec h3, by rw [h3.2.2.2, gl_u2_eq, gl_up_eq, gl_u2_eq, gl_up_eq], fun c q1 q2 => by rw [h3.1 c q2, h2x c (by omega)], fun c q1 q2 => by rw [h3.2.2.2, gl_u2_ne q2, hBx c (by omega)]⟩⟩⟩) (by omega) (by omega) dX0_take_122
          · refine j_aload_n C dX0_take_78 rfl 79 rfl ?_
            refine j_aload C dX0_take_79 rfl 81 rfl ?_
            refine j_aload C dX0_take_81 rfl 83 rfl ?_
            refine j_cv C (cs_X0_330 C (ct_X0_blames (I := I2) (a := (1 + 137 + 4 * k)) (b := 701) (bm := bm) (h - 1) (by omega) hG (by rw [h2x 1 (by omega)]; exact hbm) hb6 hD (by omega) hG.ak (Or.inr rfl) (by omega) (by decide)) hG.o rfl (by omega) (by omega) (by omega) rfl (Nat.le_of_ble_eq_true rfl) dX0_take_83) 86 rfl ?_
            rintro _ ⟨I3, B3, rfl, h3⟩
            have h37 : I3 7 = I 7 := by
              rw [← h2x 7 (by omega)]
              unfold gl_blP at h3
              by_cases q : bm = 60
              · rw [if_pos q] at h3; rw [h3.1]
              · rw [if_neg q] at h3; exact h3.2.2.2.1 7 (by decide) (by omega)
            refine j_aload_n C dX0_take_86 rfl 87 rfl ?_
            refine gf_X0_12 C hG.o hG.r0 dX0_take_87 90 rfl ?_
            refine gf_X0_334 C hG.hs.o hG.hs.r5 dX0_take_90 93 rfl ?_
            refine j_iload_n C dX0_take_93 rfl 94 rfl ?_
            refine j_dup2 C dX0_take_94 rfl rfl 95 rfl ?_
            refine j_iald C hG.hs.k6 (by omega) (by decide) dX0_take_95 96 rfl ?_
            rw [show (1 + 6 : Nat) = 7 from rfl, h37]
            refine j_iconst (v := nI 1) C dX0_take_96 (by decide) 97 rfl ?_
            refine j_iadd C dX0_take_97 98 rfl ?_
            refine j_iast C hG.hs.k6 (by omega) (by decide) dX0_take_98 99 rfl ?_
            refine j_iconst (v := nI 0) C dX0_take_99 (by decide) 100 rfl ?_
            exact j_iret C hQ (by rw [if_pos ⟨c_4, c_13⟩, hck, hcl, hcm]; exact ⟨mp, hq1, _, _, rfl, by rw [show gl_gT I L B hn hl k lg m (gl_ltop (fun i => I ((1 + 7 + 19 * lg) + 1) i) (fun i => L ((1 + 7 + 19 * lg) + 4) i) m) (gl_mtree mp) = 0 from by rw [gl_gT, if_pos ⟨hB6, hk5⟩, if_neg (by rw [c_75]; decide)]]; exact ⟨rfl, by rw [gl_u2_eq, h37]; rfl, by
                        unfold gl_blP at h3
                        by_cases q : bm = 60
                        · rw [if_pos q] at h3 ⊢
                          rw [h3.1, h3.2]
                          exact ⟨by rw [gl_u2_ne (by decide), h2x 1 (by omega)], fun c q1 q2 => by rw [gl_u2_ne q2]; exact h2x c q1, fun c q1 => hBx c (by omega)⟩
                        · rw [if_neg q] at h3 ⊢
                          obtain ⟨z1, z2, z3, z4, z5⟩ := h3
                          refine ⟨by rw [gl_u2_ne (by decide), z1, h2x 1 (by omega)], fun f q hh_ => ?_, ?_, fun c q1 q2 q3 q4 => ?_, fun c q1 q2 => ?_⟩
                          · exact (z2 f q (hh_.of_eq (fun c q1 q2 => h2x c (by omega)))).of_eq (fun c q1 q2 => gl_u2_ne (by omega))
                          · exact (z3 _ 0 hA_h2).of_eq (fun c q1 q2 => gl_u2_ne (by omega))
                          · rw [gl_u2_ne q3, z4 c q2 q4]; exact h2x c q1
                          · rw [z5 c q2]; exact hBx c (by omega)⟩⟩) (by omega) (by omega) dX0_take_100
        · refine j_aload C dX0_take_58 rfl 60 rfl ?_
          refine j_aload C dX0_take_60 rfl 62 rfl ?_
          refine j_cv C (cs_X0_327 C (ct_X4_become (d := (1 + 137 + 4 * k)) (e := 701) (h - 1) (by omega) hD hG.ak (by omega)) hD.o rfl (by omega) (by omega) (by omega) rfl (Nat.le_of_ble_eq_true rfl) dX0_take_62) 65 rfl ?_
          rintro _ ⟨I3, B3, rfl, h3⟩
          refine j_iconst (v := nI 1) C dX0_take_65 (by decide) 66 rfl ?_
          exact j_iret C hQ (by rw [if_pos ⟨c_4, c_13⟩, hck, hcl, hcm]; exact ⟨mp, hq1, _, _, rfl, by rw [show gl_gT I L B hn hl k lg m (gl_ltop (fun i => I ((1 + 7 + 19 * lg) + 1) i) (fun i => L ((1 + 7 + 19 * lg) + 4) i) m) (gl_mtree mp) = 2 from by rw [gl_gT, if_neg (fun q => by rw [hIx (1 + 137 + 4 * k) (by omega), ha5] at c_55; exact c_55 q.2)]]; exact ⟨rfl, ⟨(hA_h1).bec h3, by rw [h3.2.2.2, gl_u2_eq, gl_up_eq, gl_u2_eq, gl_up_eq], fun c q1 q2 => by rw [h3.1 c q2, h1x c (by omega)], fun c q1 q2 => by rw [h3.2.2.2, gl_u2_ne q2, hBx c (by omega)]⟩⟩⟩) (by omega) (by omega) dX0_take_66
    · refine j_iconst (v := -1) C dX0_take_16 (by decide) 17 rfl ?_
      exact j_iret C hQ (by rw [if_neg (fun q => by rw [c_13] at q; exact absurd q.2 (by decide))]; exact ⟨rfl, rfl⟩) (by omega) (by omega) dX0_take_17
def gl_tkP2 (I I' : Nat → Nat → Int32) (B B' : Nat → Nat → Bool) (d e : Nat) : Prop := (∀ f q, gl_hr I e f q → gl_hr I' d f q) ∧ B' d 6 = B e 6 ∧ (∀ c, c < 690 ∨ 707 ≤ c → (c < d ∨ d + 4 ≤ c) → I' c = I c) ∧ ∀ c, c < 690 ∨ 707 ≤ c → c ≠ d → B' c = B c
def gl_tL2 (I I' : Nat → Nat → Int32) (B B' : Nat → Nat → Bool) (bm d e : Nat) (bl : Nat → Int32) : Prop := I' 7 = bl ∧ (if bm = 60 then I' 1 = I 1 ∧ (∀ c, c < 690 ∨ 707 ≤ c → c ≠ 7 → I' c = I c) ∧ ∀ c, c < 690 ∨ 707 ≤ c → B' c = B c else I' 1 = va_up (I 1) 7 (nI (bm + 1)) ∧ (∀ f q, gl_hr I d f q → gl_hr I' (1 + 185 + 4 * (2 * bm)) f q) ∧ (∀ f q, gl_hr I e f q → gl_hr I' (1 + 185 + 4 * (2 * bm + 1)) f q) ∧ (∀ c, c < 690 ∨ 707 ≤ c → c ≠ 1 → c ≠ 7 → (c < 186 + 8 * bm ∨ 194 + 8 * bm ≤ c) → I' c = I c) ∧ ∀ c, c < 690 ∨ 707 ≤ c → (c < 186 + 8 * bm ∨ 194 + 8 * bm ≤ c) → B' c = B c)
def gl_gK (I : Nat → Nat → Int32) (L : Nat → Nat → Int64) (hn hl : Nat → Nat) (k e : Nat) : Bool := gl_gA I L (hn k) (hn e) (hl k) (hl e) (I (1 + 137 + 4 * k + 1)) (I (1 + 137 + 4 * k + 2)) (I (1 + 137 + 4 * e + 1)) (I (1 + 137 + 4 * e + 2))
def gl_gKP (I I' : Nat → Nat → Int32) (B B' : Nat → Nat → Bool) (hn : Nat → Nat) (bm k e : Nat) (r : Int32) : Bool → Prop
  | false => r = nI 0 ∧ gl_tL2 I I' B B' bm (1 + 137 + 4 * k) (1 + 137 + 4 * e) (va_up (va_up (I 7) k (I 7 k + 1)) e (va_up (I 7) k (I 7 k + 1) e + 1))
  | true => r = nI 1 ∧ (if hn e < hn k then gl_tkP2 I I' B B' (1 + 137 + 4 * e) (1 + 137 + 4 * k) else if hn k < hn e then gl_tkP2 I I' B B' (1 + 137 + 4 * k) (1 + 137 + 4 * e) else gl_xs I I' B B')
set_option maxHeartbeats 4000000 in
set_option maxRecDepth 100000 in
theorem ct_X0_talk {l : Launch} {δ : gl_Del} {Λ : gl_Lay} {I : Nat → Nat → Int32} {L : Nat → Nat → Int64} {B : Nat → Nat → Bool} {R : Nat → Nat → Option Nat} {lm : Nat} {mn wn : Nat → Nat} {sn : Nat → Nat → Nat} {bm : Nat} {hn hl : Nat → Nat} {x y : Int32} (h : Nat) (hh : 9 ≤ h) (hG : gl_GL Λ R) (H : gl_gL I 1 lm mn wn sn) (hsm : ∀ k, k < lm → gl_sm I (1 + 7 + 19 * k) (I (1 + 7 + 19 * k + 1)) (L (1 + 7 + 19 * k + 4)) (mn k)) (hbm : I 1 7 = nI bm) (hb6 : bm ≤ 60) (HH : gl_gH I B lm mn hn hl) : gl_Ct l δ yX0_talk (ws_ yX0_talk cX0_talk 5 ((some FieldType.int))) (gl_rm h 0 0) 0 0 [.ref 0, .int x, .int y] (Λ, I, L, B, R) (gl_Qi fun r S => if (gl_in x 12 = true ∧ gl_in y 12 = true ∧ x ≠ y ∧ B (1 + 137 + 4 * x.toNatClampNeg) 6 = true ∧ B (1 + 137 + 4 * y.toNatClampNeg) 6 = true ∧ I (1 + 137 + 4 * x.toNatClampNeg) 5 = I (1 + 137 + 4 * y.toNatClampNeg) 5) then ∃ I' B', S = (Λ, I', L, B', R) ∧ gl_gKP I I' B B' hn bm x.toNatClampNeg y.toNatClampNeg r (gl_gK I L hn hl x.toNatClampNeg y.toNatClampNeg) else r = -1 ∧ S = (Λ, I, L, B, R)) := by
  refine gl_of (by decide) (Nat.le_of_ble_eq_true rfl) rfl ?_
  intro κ C hQ hlκ hδκ hnL hini
  change gl_Cx κ RX0 _ _ _ at C
  refine j_aload_n C dX0_talk_0 rfl 1 rfl ?_
  refine j_iload_n C dX0_talk_1 rfl 2 rfl ?_
  refine j_ci C (cs_X0_306 C (ct_X0_hasHead (h - 1) (by omega) hG) hG.o rfl (by omega) (by omega) (by omega) rfl (Nat.le_of_ble_eq_true rfl) dX0_talk_2) 5 rfl ?_
  rintro _ _ ⟨rfl, rfl⟩
  refine b_if_eq C 48 8 dX0_talk_5 (by decide) rfl (fun c_5 => ?_) (fun c_5 => ?_)
  · refine j_iconst (v := -1) C dX0_talk_48 (by decide) 49 rfl ?_
    exact j_iret C hQ (by rw [if_neg (fun q => by rw [q.1, q.2.2.2.1] at c_5; exact absurd c_5 (by decide))]; exact ⟨rfl, rfl⟩) (by omega) (by omega) dX0_talk_49
  · refine j_aload_n C dX0_talk_8 rfl 9 rfl ?_
    refine j_iload_n C dX0_talk_9 rfl 10 rfl ?_
    refine j_ci C (cs_X0_306 C (ct_X0_hasHead (h - 1) (by omega) hG) hG.o rfl (by omega) (by omega) (by omega) rfl (Nat.le_of_ble_eq_true rfl) dX0_talk_10) 13 rfl ?_
    rintro _ _ ⟨rfl, rfl⟩
    refine b_if_eq C 48 16 dX0_talk_13 (by decide) rfl (fun c_13 => ?_) (fun c_13 => ?_)
    · refine j_iconst (v := -1) C dX0_talk_48 (by decide) 49 rfl ?_
      exact j_iret C hQ (by rw [if_neg (fun q => by rw [q.2.1, q.2.2.2.2.1] at c_13; exact absurd c_13 (by decide))]; exact ⟨rfl, rfl⟩) (by omega) (by omega) dX0_talk_49
    · obtain ⟨z1, hB6⟩ := Bool.and_eq_true_iff.mp c_5
      obtain ⟨k, hk_, rfl⟩ := (gl_in_iff (by decide)).mp z1
      have hDk := hG.hs.hd k hk_
      have hck : (nI k).toNatClampNeg = k := nI_clamp (by omega)
      rw [hck] at hB6
      obtain ⟨z2, hB6e⟩ := Bool.and_eq_true_iff.mp c_13
      obtain ⟨e, he_, rfl⟩ := (gl_in_iff (by decide)).mp z2
      have hDe := hG.hs.hd e he_
      have hce : (nI e).toNatClampNeg = e := nI_clamp (by omega)
      rw [hce] at hB6e
      refine j_iload_n C dX0_talk_16 rfl 17 rfl ?_
      refine j_iload_n C dX0_talk_17 rfl 18 rfl ?_
      refine n_icmp_eq C 48 21 dX0_talk_18 (by decide) rfl (by omega) (by omega) (fun c_18 => ?_) (fun c_18 => ?_)
      · refine j_iconst (v := -1) C dX0_talk_48 (by decide) 49 rfl ?_
        exact j_iret C hQ (by rw [if_neg (fun q => q.2.2.1 (by rw [c_18]))]; exact ⟨rfl, rfl⟩) (by omega) (by omega) dX0_talk_49
      · refine j_aload_n C dX0_talk_21 rfl 22 rfl ?_
        refine gf_X0_12 C hG.o hG.r0 dX0_talk_22 25 rfl ?_
        refine gf_X0_302 C hG.hs.o hG.hs.r2 dX0_talk_25 28 rfl ?_
        refine j_iload_n C dX0_talk_28 rfl 29 rfl ?_
        refine j_aald C (by decide) hG.hs.k3 (by omega) (by decide) dX0_talk_29 30 rfl ?_
        rw [hG.hs.hr k (by omega)]
        change gl_J _ _ _ _ _ _ (Value.ref _ :: _)
        refine gf_X0_131 C hDk.o dX0_talk_30 33 rfl ?_
        refine j_aload_n C dX0_talk_33 rfl 34 rfl ?_
        refine gf_X0_12 C hG.o hG.r0 dX0_talk_34 37 rfl ?_
        refine gf_X0_302 C hG.hs.o hG.hs.r2 dX0_talk_37 40 rfl ?_
        refine j_iload_n C dX0_talk_40 rfl 41 rfl ?_
        refine j_aald C (by decide) hG.hs.k3 (by omega) (by decide) dX0_talk_41 42 rfl ?_
        rw [hG.hs.hr e (by omega)]
        change gl_J _ _ _ _ _ _ (Value.ref _ :: _)
        refine gf_X0_131 C hDe.o dX0_talk_42 45 rfl ?_
        refine j_icmp_eq C 50 48 dX0_talk_45 (by decide) rfl (fun c_45 => ?_) (fun c_45 => ?_)
        · refine j_aload_n C dX0_talk_50 rfl 51 rfl ?_
          refine gf_X0_12 C hG.o hG.r0 dX0_talk_51 54 rfl ?_
          refine gf_X0_302 C hG.hs.o hG.hs.r2 dX0_talk_54 57 rfl ?_
          refine j_iload_n C dX0_talk_57 rfl 58 rfl ?_
          refine j_aald C (by decide) hG.hs.k3 (by omega) (by decide) dX0_talk_58 59 rfl ?_
          rw [hG.hs.hr k (by omega)]
          change gl_J _ _ _ _ _ _ (Value.ref _ :: _)
          refine j_astore_n C dX0_talk_59 (Nat.le_of_ble_eq_true rfl) (by rw [hnL]; decide) rfl 60 rfl ?_
          refine j_aload_n C dX0_talk_60 rfl 61 rfl ?_
          refine gf_X0_12 C hG.o hG.r0 dX0_talk_61 64 rfl ?_
          refine gf_X0_302 C hG.hs.o hG.hs.r2 dX0_talk_64 67 rfl ?_
          refine j_iload_n C dX0_talk_67 rfl 68 rfl ?_
          refine j_aald C (by decide) hG.hs.k3 (by omega) (by decide) dX0_talk_68 69 rfl ?_
          rw [hG.hs.hr e (by omega)]
          change gl_J _ _ _ _ _ _ (Value.ref _ :: _)
          refine j_astore C dX0_talk_69 (Nat.le_of_ble_eq_true rfl) (by rw [hnL]; decide) rfl 71 rfl ?_
          have hke : k ≠ e := c_18
          obtain ⟨g1, g2, g3, g4⟩ := HH k hk_ hB6
          obtain ⟨f1, f2, f3, f4⟩ := HH e he_ hB6e
          have hl6 := H.2.1
          refine j_aload_n C dX0_talk_71 rfl 72 rfl ?_
          refine j_aload_n C dX0_talk_72 rfl 73 rfl ?_
          refine j_aload C dX0_talk_73 rfl 75 rfl ?_
          refine j_ci C (cs_X0_313 C (ct_X0_agree (a := (1 + 137 + 4 * k)) (b := (1 + 137 + 4 * e)) (na := hn k) (nb := hn e) (la := hl k) (lb := hl e) (h - 1) (by omega) hG H hsm hDk (by omega) g1 g2 g3 g4 hDe (by omega) f1 f2 f3 f4) hG.o rfl (by omega) (by omega) (by omega) rfl (Nat.le_of_ble_eq_true rfl) dX0_talk_75) 78 rfl ?_
          rintro _ _ ⟨rfl, I2, rfl, h2⟩
          have h2x : ∀ c, c < 690 ∨ 707 ≤ c → I2 c = I c := fun c q => h2 c (by omega)
          refine b_if_ne C 116 81 dX0_talk_78 (by decide) rfl (fun c_78 => ?_) (fun c_78 => ?_)
          · refine j_aload_n C dX0_talk_116 rfl 117 rfl ?_
            refine gf_X0_125 C hDk.o dX0_talk_117 120 rfl ?_
            rw [show I2 (1 + 137 + 4 * k) 3 = nI (hn k) from (congrFun (h2x (1 + 137 + 4 * k) (by omega)) 3).trans g1]
            refine j_aload C dX0_talk_120 rfl 122 rfl ?_
            refine gf_X0_125 C hDe.o dX0_talk_122 125 rfl ?_
            rw [show I2 (1 + 137 + 4 * e) 3 = nI (hn e) from (congrFun (h2x (1 + 137 + 4 * e) (by omega)) 3).trans f1]
            refine n_icmp_le C 137 128 dX0_talk_125 (by decide) rfl (by have := (H.2.2 (hl k) g3).2.1; omega) (by have := (H.2.2 (hl e) f3).2.1; omega) (fun c_125 => ?_) (fun c_125 => ?_)
            · refine j_aload C dX0_talk_137 rfl 139 rfl ?_
              refine gf_X0_125 C hDe.o dX0_talk_139 142 rfl ?_
              rw [show I2 (1 + 137 + 4 * e) 3 = nI (hn e) from (congrFun (h2x (1 + 137 + 4 * e) (by omega)) 3).trans f1]
              refine j_aload_n C dX0_talk_142 rfl 143 rfl ?_
              refine gf_X0_125 C hDk.o dX0_talk_143 146 rfl ?_
              rw [show I2 (1 + 137 + 4 * k) 3 = nI (hn k) from (congrFun (h2x (1 + 137 + 4 * k) (by omega)) 3).trans g1]
              refine n_icmp_le C 155 149 dX0_talk_146 (by decide) rfl (by have := (H.2.2 (hl e) f3).2.1; omega) (by have := (H.2.2 (hl k) g3).2.1; omega) (fun c_146 => ?_) (fun c_146 => ?_)
              · refine j_iconst (v := nI 1) C dX0_talk_155 (by decide) 156 rfl ?_
                exact j_iret C hQ (by rw [if_pos ⟨z1, z2, fun q => c_18 ((nI_eq (by omega) (by omega)).mp q), by rw [hck]; exact hB6, by rw [hce]; exact hB6e, by rw [hck, hce]; exact c_45⟩, hck, hce]; exact ⟨_, _, rfl, by rw [show gl_gK I L hn hl k e = true from c_78]; exact ⟨rfl, by rw [if_neg (by omega), if_neg (by omega)]; exact ⟨h2x, fun _ _ => rfl⟩⟩⟩) (by omega) (by omega) dX0_talk_156
              · refine j_aload_n C dX0_talk_149 rfl 150 rfl ?_
                refine j_aload C dX0_talk_150 rfl 152 rfl ?_
                refine j_cv C (cs_X0_327 C (ct_X4_become (I := I2) (d := (1 + 137 + 4 * k)) (e := (1 + 137 + 4 * e)) (h - 1) (by omega) hDk hDe (by omega)) (x := 0) hDk.o rfl (by omega) (by omega) (by omega) rfl (Nat.le_of_ble_eq_true rfl) dX0_talk_152) 155 rfl ?_
                rintro _ ⟨I3, B3, rfl, h3⟩
                refine j_iconst (v := nI 1) C dX0_talk_155 (by decide) 156 rfl ?_
                exact j_iret C hQ (by rw [if_pos ⟨z1, z2, fun q => c_18 ((nI_eq (by omega) (by omega)).mp q), by rw [hck]; exact hB6, by rw [hce]; exact hB6e, by rw [hck, hce]; exact c_45⟩, hck, hce]; exact ⟨_, _, rfl, by rw [show gl_gK I L hn hl k e = true from c_78]; exact ⟨rfl, by rw [if_neg (by omega), if_pos (by omega)]; exact ⟨fun f q hh_ => (hh_.of_eq (I' := I2) (fun c q1 q2 => h2x c (by omega))).bec h3, by rw [h3.2.2.2, gl_u2_eq, gl_up_eq], fun c q1 q2 => by rw [h3.1 c q2, h2x c q1], fun c q1 q2 => by rw [h3.2.2.2, gl_u2_ne q2]⟩⟩⟩) (by omega) (by omega) dX0_talk_156
            · refine j_aload C dX0_talk_128 rfl 130 rfl ?_
              refine j_aload_n C dX0_talk_130 rfl 131 rfl ?_
              refine j_cv C (cs_X0_327 C (ct_X4_become (I := I2) (d := (1 + 137 + 4 * e)) (e := (1 + 137 + 4 * k)) (h - 1) (by omega) hDe hDk (by omega)) (x := 0) hDe.o rfl (by omega) (by omega) (by omega) rfl (Nat.le_of_ble_eq_true rfl) dX0_talk_131) 134 rfl ?_
              rintro _ ⟨I3, B3, rfl, h3⟩
              refine j_goto (tgt := 155) C dX0_talk_134 (by decide) ?_
              refine j_iconst (v := nI 1) C dX0_talk_155 (by decide) 156 rfl ?_
              exact j_iret C hQ (by rw [if_pos ⟨z1, z2, fun q => c_18 ((nI_eq (by omega) (by omega)).mp q), by rw [hck]; exact hB6, by rw [hce]; exact hB6e, by rw [hck, hce]; exact c_45⟩, hck, hce]; exact ⟨_, _, rfl, by rw [show gl_gK I L hn hl k e = true from c_78]; exact ⟨rfl, by rw [if_pos (by omega)]; exact ⟨fun f q hh_ => (hh_.of_eq (I' := I2) (fun c q1 q2 => h2x c (by omega))).bec h3, by rw [h3.2.2.2, gl_u2_eq, gl_up_eq], fun c q1 q2 => by rw [h3.1 c q2, h2x c q1], fun c q1 q2 => by rw [h3.2.2.2, gl_u2_ne q2]⟩⟩⟩) (by omega) (by omega) dX0_talk_156
          · refine j_aload_n C dX0_talk_81 rfl 82 rfl ?_
            refine j_aload_n C dX0_talk_82 rfl 83 rfl ?_
            refine j_aload C dX0_talk_83 rfl 85 rfl ?_
            refine j_cv C (cs_X0_330 C (ct_X0_blames (I := I2) (a := (1 + 137 + 4 * k)) (b := (1 + 137 + 4 * e)) (bm := bm) (h - 1) (by omega) hG (by rw [h2x 1 (by omega)]; exact hbm) hb6 hDk (by omega) hDe (by omega) (by omega) (by omega)) hG.o rfl (by omega) (by omega) (by omega) rfl (Nat.le_of_ble_eq_true rfl) dX0_talk_85) 88 rfl ?_
            rintro _ ⟨I3, B3, rfl, h3⟩
            have h37 : I3 7 = I 7 := by
              rw [← h2x 7 (by omega)]
              unfold gl_blP at h3
              by_cases q : bm = 60
              · rw [if_pos q] at h3; rw [h3.1]
              · rw [if_neg q] at h3; exact h3.2.2.2.1 7 (by decide) (by omega)
            refine j_aload_n C dX0_talk_88 rfl 89 rfl ?_
            refine gf_X0_12 C hG.o hG.r0 dX0_talk_89 92 rfl ?_
            refine gf_X0_334 C hG.hs.o hG.hs.r5 dX0_talk_92 95 rfl ?_
            refine j_iload_n C dX0_talk_95 rfl 96 rfl ?_
            refine j_dup2 C dX0_talk_96 rfl rfl 97 rfl ?_
            refine j_iald C hG.hs.k6 (by omega) (by decide) dX0_talk_97 98 rfl ?_
            rw [show (1 + 6 : Nat) = 7 from rfl, h37]
            refine j_iconst (v := nI 1) C dX0_talk_98 (by decide) 99 rfl ?_
            refine j_iadd C dX0_talk_99 100 rfl ?_
            refine j_iast C hG.hs.k6 (by omega) (by decide) dX0_talk_100 101 rfl ?_
            refine j_aload_n C dX0_talk_101 rfl 102 rfl ?_
            refine gf_X0_12 C hG.o hG.r0 dX0_talk_102 105 rfl ?_
            refine gf_X0_334 C hG.hs.o hG.hs.r5 dX0_talk_105 108 rfl ?_
            refine j_iload_n C dX0_talk_108 rfl 109 rfl ?_
            refine j_dup2 C dX0_talk_109 rfl rfl 110 rfl ?_
            refine j_iald C hG.hs.k6 (by omega) (by decide) dX0_talk_110 111 rfl ?_
            rw [show (1 + 6 : Nat) = 7 from rfl, gl_u2_eq, h37]
            refine j_iconst (v := nI 1) C dX0_talk_111 (by decide) 112 rfl ?_
            refine j_iadd C dX0_talk_112 113 rfl ?_
            refine j_iast C hG.hs.k6 (by omega) (by decide) dX0_talk_113 114 rfl ?_
            refine j_iconst (v := nI 0) C dX0_talk_114 (by decide) 115 rfl ?_
            exact j_iret C hQ (by rw [if_pos ⟨z1, z2, fun q => c_18 ((nI_eq (by omega) (by omega)).mp q), by rw [hck]; exact hB6, by rw [hce]; exact hB6e, by rw [hck, hce]; exact c_45⟩, hck, hce]; exact ⟨_, _, rfl, by rw [show gl_gK I L hn hl k e = false from c_78]; exact ⟨rfl, by rw [gl_u2_eq, gl_u2_eq, h37]; rfl, by
                        unfold gl_blP at h3
                        by_cases q : bm = 60
                        · rw [if_pos q] at h3 ⊢
                          rw [h3.1, h3.2]
                          exact ⟨by rw [gl_u2_ne (by decide), gl_u2_ne (by decide), h2x 1 (by omega)], fun c q1 q2 => by rw [gl_u2_ne q2, gl_u2_ne q2]; exact h2x c q1, fun c q1 => rfl⟩
                        · rw [if_neg q] at h3 ⊢
                          obtain ⟨z1, z2, z3, z4, z5⟩ := h3
                          refine ⟨by rw [gl_u2_ne (by decide), gl_u2_ne (by decide), z1, h2x 1 (by omega)], fun f q hh_ => ?_, fun f q hh_ => ?_, fun c q1 q2 q3 q4 => ?_, fun c q1 q2 => ?_⟩
                          · exact (z2 f q (hh_.of_eq (fun c q1 q2 => h2x c (by omega)))).of_eq (fun c q1 q2 => by rw [gl_u2_ne (by omega), gl_u2_ne (by omega)])
                          · exact (z3 f q (hh_.of_eq (fun c q1 q2 => h2x c (by omega)))).of_eq (fun c q1 q2 => by rw [gl_u2_ne (by omega), gl_u2_ne (by omega)])
                          · rw [gl_u2_ne q3, gl_u2_ne q3, z4 c q2 q4]; exact h2x c q1
                          · rw [z5 c q2]⟩⟩) (by omega) (by omega) dX0_talk_115
        · refine j_iconst (v := -1) C dX0_talk_48 (by decide) 49 rfl ?_
          exact j_iret C hQ (by rw [if_neg (fun q => c_45 (by have := q.2.2.2.2.2; rw [hck, hce] at this; exact this))]; exact ⟨rfl, rfl⟩) (by omega) (by omega) dX0_talk_49
