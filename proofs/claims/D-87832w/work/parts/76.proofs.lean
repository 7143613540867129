/-! MODULE GlassLog, proofs: kind, key, latest, other, become, piles, twin (by gen76.py) -/
set_option maxRecDepth 100000
/-- the numbers that a kind of proof has -/
def gl_fj (ci j : Nat) : Prop := j < 4 ∨ (13 ≤ ci ∧ (j = 5 ∨ j = 6)) ∨ (ci = 14 ∧ j = 7)
/-- a proof at p: its steps at st, its entries at kl, vl -/
def gl_pf (Λ : gl_Lay) (I : Nat → Nat → Int32) (L : Nat → Nat → Int64) (R : Nat → Nat → Option Nat) (p st kl vl ci : Nat) (v : Nat → Int32) (n8 : Nat) (stp : Nat → Int32) (m : Nat) (ks : Nat → Int32) (vs : Nat → Int64) : Prop := Λ.2 p = (ci + 8, 0) ∧ R p 4 = some st ∧ Λ.2 st = (0, n8) ∧ (∀ j, gl_fj ci j → I p j = v j) ∧ (∀ t, t < n8 → I st t = stp t) ∧ ((ci = 10 ∨ ci = 11) → R p 5 = some kl ∧ R p 6 = some vl ∧ Λ.2 kl = (0, m) ∧ Λ.2 vl = (2, m) ∧ kl ≠ st ∧ ∀ i, i < m → I kl i = ks i ∧ L vl i = vs i)
theorem gl_pf.of_eq {Λ Λ' : gl_Lay} {I I' : Nat → Nat → Int32} {L L' : Nat → Nat → Int64} {R R' : Nat → Nat → Option Nat} {p st kl vl ci : Nat} {v : Nat → Int32} {n8 : Nat} {stp : Nat → Int32} {m : Nat} {ks : Nat → Int32} {vs : Nat → Int64} (h : gl_pf Λ I L R p st kl vl ci v n8 stp m ks vs) (hp : Λ'.2 p = Λ.2 p ∧ I' p = I p ∧ R' p = R p) (hs : Λ'.2 st = Λ.2 st ∧ I' st = I st) (hk : (ci = 10 ∨ ci = 11) → Λ'.2 kl = Λ.2 kl ∧ I' kl = I kl ∧ Λ'.2 vl = Λ.2 vl ∧ L' vl = L vl) : gl_pf Λ' I' L' R' p st kl vl ci v n8 stp m ks vs := by
  obtain ⟨h1, h2, h3, h4, h5, h6⟩ := h
  refine ⟨by rw [hp.1]; exact h1, by rw [hp.2.2]; exact h2, by rw [hs.1]; exact h3, fun j hj => by rw [hp.2.1]; exact h4 j hj, fun t ht => by rw [hs.2]; exact h5 t ht, fun hc => ?_⟩
  obtain ⟨k1, k2, k3, k4⟩ := hk hc
  rw [hp.2.2, k1, k2, k3, k4]
  exact h6 hc
/-- new cells from N on; but for q's own fields all is as it was -/
def gl_tw (q N N' : Nat) (sh sh' : Nat → Nat × Nat) (I I' : Nat → Nat → Int32) (L L' : Nat → Nat → Int64) (B B' : Nat → Nat → Bool) (R R' : Nat → Nat → Option Nat) : Prop := N ≤ N' ∧ ∀ c, c < N → sh' c = sh c ∧ L' c = L c ∧ B' c = B c ∧ (c ≠ q → R' c = R c ∧ I' c = I c)
/-- new cells from N on; of the ints only those of labels a .. b - 1 differ -/
def gl_xt (a b N N' : Nat) (sh sh' : Nat → Nat × Nat) (I I' : Nat → Nat → Int32) (L L' : Nat → Nat → Int64) (B B' : Nat → Nat → Bool) (R R' : Nat → Nat → Option Nat) : Prop := N ≤ N' ∧ ∀ c, c < N → sh' c = sh c ∧ L' c = L c ∧ B' c = B c ∧ R' c = R c ∧ (c < a ∨ b ≤ c → I' c = I c)
theorem gl_xt.rf {a b N : Nat} {sh : Nat → Nat × Nat} {I : Nat → Nat → Int32} {L : Nat → Nat → Int64} {B : Nat → Nat → Bool} {R : Nat → Nat → Option Nat} : gl_xt a b N N sh sh I I L L B B R R := ⟨Nat.le_refl _, fun _ _ => ⟨rfl, rfl, rfl, rfl, fun _ => rfl⟩⟩
theorem gl_xt.tr {a b N N' N2 : Nat} {sh sh' sh2 : Nat → Nat × Nat} {I I' I2 : Nat → Nat → Int32} {L L' L2 : Nat → Nat → Int64} {B B' B2 : Nat → Nat → Bool} {R R' R2 : Nat → Nat → Option Nat} (h1 : gl_xt a b N N' sh sh' I I' L L' B B' R R') (h2 : gl_xt a b N' N2 sh' sh2 I' I2 L' L2 B' B2 R' R2) : gl_xt a b N N2 sh sh2 I I2 L L2 B B2 R R2 := ⟨Nat.le_trans h1.1 h2.1, fun c hc => by
  obtain ⟨x1, x2, x3, x4, x5⟩ := h1.2 c hc
  obtain ⟨y1, y2, y3, y4, y5⟩ := h2.2 c (Nat.lt_of_lt_of_le hc h1.1)
  exact ⟨y1.trans x1, y2.trans x2, y3.trans x3, y4.trans x4, fun q => (y5 q).trans (x5 q)⟩⟩
theorem gl_xt.mo {a b a' b' N N' : Nat} {sh sh' : Nat → Nat × Nat} {I I' : Nat → Nat → Int32} {L L' : Nat → Nat → Int64} {B B' : Nat → Nat → Bool} {R R' : Nat → Nat → Option Nat} (h : gl_xt a b N N' sh sh' I I' L L' B B' R R') (ha : a' ≤ a) (hb : b ≤ b') : gl_xt a' b' N N' sh sh' I I' L L' B B' R R' := ⟨h.1, fun c hc => by
  obtain ⟨x1, x2, x3, x4, x5⟩ := h.2 c hc
  exact ⟨x1, x2, x3, x4, fun q => x5 (by omega)⟩⟩
set_option maxHeartbeats 4000000 in
set_option maxRecDepth 100000 in
theorem ct_X11_kind {l : Launch} {δ : gl_Del} {S : gl_Sto} {p : Nat} (h : Nat) (hh : 1 ≤ h)  : gl_Ct l δ yX11_kind (ws_ yX11_kind cX11_kind 1 ((some FieldType.int))) (gl_rm h 0 0) 0 0 [.ref p] S (gl_Qi fun r S1 => r = nI 5 ∧ S1 = S) := by
  refine gl_of (by decide) (Nat.le_of_ble_eq_true rfl) rfl ?_
  intro κ C hQ hlκ hδκ hnL hini
  change gl_Cx κ RX11 _ _ _ at C
  refine j_iconst (v := nI 5) C dX11_kind_0 (by decide) 1 rfl ?_
  exact j_iret C hQ ⟨rfl, rfl⟩ (by omega) (by omega) dX11_kind_1
set_option maxHeartbeats 4000000 in
set_option maxRecDepth 100000 in
theorem ct_X12_kind {l : Launch} {δ : gl_Del} {S : gl_Sto} {p : Nat} (h : Nat) (hh : 1 ≤ h)  : gl_Ct l δ yX12_kind (ws_ yX12_kind cX12_kind 1 ((some FieldType.int))) (gl_rm h 0 0) 0 0 [.ref p] S (gl_Qi fun r S1 => r = nI 1 ∧ S1 = S) := by
  refine gl_of (by decide) (Nat.le_of_ble_eq_true rfl) rfl ?_
  intro κ C hQ hlκ hδκ hnL hini
  change gl_Cx κ RX12 _ _ _ at C
  refine j_iconst (v := nI 1) C dX12_kind_0 (by decide) 1 rfl ?_
  exact j_iret C hQ ⟨rfl, rfl⟩ (by omega) (by omega) dX12_kind_1
set_option maxHeartbeats 4000000 in
set_option maxRecDepth 100000 in
theorem ct_X13_kind {l : Launch} {δ : gl_Del} {S : gl_Sto} {p : Nat} (h : Nat) (hh : 1 ≤ h)  : gl_Ct l δ yX13_kind (ws_ yX13_kind cX13_kind 1 ((some FieldType.int))) (gl_rm h 0 0) 0 0 [.ref p] S (gl_Qi fun r S1 => r = nI 2 ∧ S1 = S) := by
  refine gl_of (by decide) (Nat.le_of_ble_eq_true rfl) rfl ?_
  intro κ C hQ hlκ hδκ hnL hini
  change gl_Cx κ RX13 _ _ _ at C
  refine j_iconst (v := nI 2) C dX13_kind_0 (by decide) 1 rfl ?_
  exact j_iret C hQ ⟨rfl, rfl⟩ (by omega) (by omega) dX13_kind_1
set_option maxHeartbeats 4000000 in
set_option maxRecDepth 100000 in
theorem ct_X14_kind {l : Launch} {δ : gl_Del} {S : gl_Sto} {p : Nat} (h : Nat) (hh : 1 ≤ h)  : gl_Ct l δ yX14_kind (ws_ yX14_kind cX14_kind 1 ((some FieldType.int))) (gl_rm h 0 0) 0 0 [.ref p] S (gl_Qi fun r S1 => r = nI 3 ∧ S1 = S) := by
  refine gl_of (by decide) (Nat.le_of_ble_eq_true rfl) rfl ?_
  intro κ C hQ hlκ hδκ hnL hini
  change gl_Cx κ RX14 _ _ _ at C
  refine j_iconst (v := nI 3) C dX14_kind_0 (by decide) 1 rfl ?_
  exact j_iret C hQ ⟨rfl, rfl⟩ (by omega) (by omega) dX14_kind_1
set_option maxHeartbeats 4000000 in
set_option maxRecDepth 100000 in
theorem ct_X15_kind {l : Launch} {δ : gl_Del} {S : gl_Sto} {p : Nat} (h : Nat) (hh : 1 ≤ h)  : gl_Ct l δ yX15_kind (ws_ yX15_kind cX15_kind 1 ((some FieldType.int))) (gl_rm h 0 0) 0 0 [.ref p] S (gl_Qi fun r S1 => r = nI 4 ∧ S1 = S) := by
  refine gl_of (by decide) (Nat.le_of_ble_eq_true rfl) rfl ?_
  intro κ C hQ hlκ hδκ hnL hini
  change gl_Cx κ RX15 _ _ _ at C
  refine j_iconst (v := nI 4) C dX15_kind_0 (by decide) 1 rfl ?_
  exact j_iret C hQ ⟨rfl, rfl⟩ (by omega) (by omega) dX15_kind_1
set_option maxHeartbeats 4000000 in
set_option maxRecDepth 100000 in
theorem ct_X10_key {l : Launch} {δ : gl_Del} {S : gl_Sto} {p : Nat} (h : Nat) (hh : 1 ≤ h)  : gl_Ct l δ yX10_key (ws_ yX10_key cX10_key 1 ((some FieldType.int))) (gl_rm h 0 0) 0 0 [.ref p] S (gl_Qi fun r S1 => r = nI 0 ∧ S1 = S) := by
  refine gl_of (by decide) (Nat.le_of_ble_eq_true rfl) rfl ?_
  intro κ C hQ hlκ hδκ hnL hini
  change gl_Cx κ RX10 _ _ _ at C
  refine j_iconst (v := nI 0) C dX10_key_0 (by decide) 1 rfl ?_
  exact j_iret C hQ ⟨rfl, rfl⟩ (by omega) (by omega) dX10_key_1
set_option maxHeartbeats 4000000 in
set_option maxRecDepth 100000 in
theorem ct_X10_latest {l : Launch} {δ : gl_Del} {S : gl_Sto} {p : Nat} (h : Nat) (hh : 1 ≤ h)  : gl_Ct l δ yX10_latest (ws_ yX10_latest cX10_latest 1 ((some FieldType.int))) (gl_rm h 0 0) 0 0 [.ref p] S (gl_Qi fun r S1 => r = nI 0 ∧ S1 = S) := by
  refine gl_of (by decide) (Nat.le_of_ble_eq_true rfl) rfl ?_
  intro κ C hQ hlκ hδκ hnL hini
  change gl_Cx κ RX10 _ _ _ at C
  refine j_iconst (v := nI 0) C dX10_latest_0 (by decide) 1 rfl ?_
  exact j_iret C hQ ⟨rfl, rfl⟩ (by omega) (by omega) dX10_latest_1
set_option maxHeartbeats 4000000 in
set_option maxRecDepth 100000 in
theorem ct_X10_other {l : Launch} {δ : gl_Del} {S : gl_Sto} {p : Nat} (h : Nat) (hh : 1 ≤ h)  : gl_Ct l δ yX10_other (ws_ yX10_other cX10_other 1 ((some FieldType.int))) (gl_rm h 0 0) 0 0 [.ref p] S (gl_Qi fun r S1 => r = nI 0 ∧ S1 = S) := by
  refine gl_of (by decide) (Nat.le_of_ble_eq_true rfl) rfl ?_
  intro κ C hQ hlκ hδκ hnL hini
  change gl_Cx κ RX10 _ _ _ at C
  refine j_iconst (v := nI 0) C dX10_other_0 (by decide) 1 rfl ?_
  exact j_iret C hQ ⟨rfl, rfl⟩ (by omega) (by omega) dX10_other_1
set_option maxHeartbeats 4000000 in
set_option maxRecDepth 100000 in
theorem ct_X14_key_13 {l : Launch} {δ : gl_Del} {Λ : gl_Lay} {I : Nat → Nat → Int32} {L : Nat → Nat → Int64} {B : Nat → Nat → Bool} {R : Nat → Nat → Option Nat} {p x : Nat} (h : Nat) (hh : 1 ≤ h) (hk : Λ.2 p = (21, x)) : gl_Ct l δ yX14_key (ws_ yX14_key cX14_key 1 ((some FieldType.int))) (gl_rm h 0 0) 0 0 [.ref p] (Λ, I, L, B, R) (gl_Qi fun r S1 => r = I p 5 ∧ S1 = (Λ, I, L, B, R)) := by
  refine gl_of (by decide) (Nat.le_of_ble_eq_true rfl) rfl ?_
  intro κ C hQ hlκ hδκ hnL hini
  change gl_Cx κ RX14 _ _ _ at C
  refine j_aload_n C dX14_key_0 rfl 1 rfl ?_
  refine gf_X14_9_13 C hk dX14_key_1 4 rfl ?_
  exact j_iret C hQ ⟨rfl, rfl⟩ (by omega) (by omega) dX14_key_4
set_option maxHeartbeats 4000000 in
set_option maxRecDepth 100000 in
theorem ct_X14_latest_13 {l : Launch} {δ : gl_Del} {Λ : gl_Lay} {I : Nat → Nat → Int32} {L : Nat → Nat → Int64} {B : Nat → Nat → Bool} {R : Nat → Nat → Option Nat} {p x : Nat} (h : Nat) (hh : 1 ≤ h) (hk : Λ.2 p = (21, x)) : gl_Ct l δ yX14_latest (ws_ yX14_latest cX14_latest 1 ((some FieldType.int))) (gl_rm h 0 0) 0 0 [.ref p] (Λ, I, L, B, R) (gl_Qi fun r S1 => r = I p 6 ∧ S1 = (Λ, I, L, B, R)) := by
  refine gl_of (by decide) (Nat.le_of_ble_eq_true rfl) rfl ?_
  intro κ C hQ hlκ hδκ hnL hini
  change gl_Cx κ RX14 _ _ _ at C
  refine j_aload_n C dX14_latest_0 rfl 1 rfl ?_
  refine gf_X14_15_13 C hk dX14_latest_1 4 rfl ?_
  exact j_iret C hQ ⟨rfl, rfl⟩ (by omega) (by omega) dX14_latest_4
set_option maxHeartbeats 4000000 in
set_option maxRecDepth 100000 in
theorem ct_X14_key_14 {l : Launch} {δ : gl_Del} {Λ : gl_Lay} {I : Nat → Nat → Int32} {L : Nat → Nat → Int64} {B : Nat → Nat → Bool} {R : Nat → Nat → Option Nat} {p x : Nat} (h : Nat) (hh : 1 ≤ h) (hk : Λ.2 p = (22, x)) : gl_Ct l δ yX14_key (ws_ yX14_key cX14_key 1 ((some FieldType.int))) (gl_rm h 0 0) 0 0 [.ref p] (Λ, I, L, B, R) (gl_Qi fun r S1 => r = I p 5 ∧ S1 = (Λ, I, L, B, R)) := by
  refine gl_of (by decide) (Nat.le_of_ble_eq_true rfl) rfl ?_
  intro κ C hQ hlκ hδκ hnL hini
  change gl_Cx κ RX14 _ _ _ at C
  refine j_aload_n C dX14_key_0 rfl 1 rfl ?_
  refine gf_X14_9_14 C hk dX14_key_1 4 rfl ?_
  exact j_iret C hQ ⟨rfl, rfl⟩ (by omega) (by omega) dX14_key_4
set_option maxHeartbeats 4000000 in
set_option maxRecDepth 100000 in
theorem ct_X14_latest_14 {l : Launch} {δ : gl_Del} {Λ : gl_Lay} {I : Nat → Nat → Int32} {L : Nat → Nat → Int64} {B : Nat → Nat → Bool} {R : Nat → Nat → Option Nat} {p x : Nat} (h : Nat) (hh : 1 ≤ h) (hk : Λ.2 p = (22, x)) : gl_Ct l δ yX14_latest (ws_ yX14_latest cX14_latest 1 ((some FieldType.int))) (gl_rm h 0 0) 0 0 [.ref p] (Λ, I, L, B, R) (gl_Qi fun r S1 => r = I p 6 ∧ S1 = (Λ, I, L, B, R)) := by
  refine gl_of (by decide) (Nat.le_of_ble_eq_true rfl) rfl ?_
  intro κ C hQ hlκ hδκ hnL hini
  change gl_Cx κ RX14 _ _ _ at C
  refine j_aload_n C dX14_latest_0 rfl 1 rfl ?_
  refine gf_X14_15_14 C hk dX14_latest_1 4 rfl ?_
  exact j_iret C hQ ⟨rfl, rfl⟩ (by omega) (by omega) dX14_latest_4
set_option maxHeartbeats 4000000 in
set_option maxRecDepth 100000 in
theorem ct_X15_other {l : Launch} {δ : gl_Del} {Λ : gl_Lay} {I : Nat → Nat → Int32} {L : Nat → Nat → Int64} {B : Nat → Nat → Bool} {R : Nat → Nat → Option Nat} {p x : Nat} (h : Nat) (hh : 1 ≤ h) (hk : Λ.2 p = (22, x)) : gl_Ct l δ yX15_other (ws_ yX15_other cX15_other 1 ((some FieldType.int))) (gl_rm h 0 0) 0 0 [.ref p] (Λ, I, L, B, R) (gl_Qi fun r S1 => r = I p 7 ∧ S1 = (Λ, I, L, B, R)) := by
  refine gl_of (by decide) (Nat.le_of_ble_eq_true rfl) rfl ?_
  intro κ C hQ hlκ hδκ hnL hini
  change gl_Cx κ RX15 _ _ _ at C
  refine j_aload_n C dX15_other_0 rfl 1 rfl ?_
  refine gf_X15_9 C hk dX15_other_1 4 rfl ?_
  exact j_iret C hQ ⟨rfl, rfl⟩ (by omega) (by omega) dX15_other_4
set_option maxHeartbeats 4000000 in
set_option maxRecDepth 100000 in
theorem ct_X11_key_10 {l : Launch} {δ : gl_Del} {Λ : gl_Lay} {I : Nat → Nat → Int32} {L : Nat → Nat → Int64} {B : Nat → Nat → Bool} {R : Nat → Nat → Option Nat} {p x kl m : Nat} (h : Nat) (hh : 1 ≤ h) (hk : Λ.2 p = (18, x)) (hr5 : R p 5 = some kl) (hkl : Λ.2 kl = (0, m)) (hm : m < 2 ^ 31) : gl_Ct l δ yX11_key (ws_ yX11_key cX11_key 1 ((some FieldType.int))) (gl_rm h 0 0) 0 0 [.ref p] (Λ, I, L, B, R) (gl_Qi fun r S1 => r = (if m = 0 then nI 0 else I kl 0) ∧ S1 = (Λ, I, L, B, R)) := by
  refine gl_of (by decide) (Nat.le_of_ble_eq_true rfl) rfl ?_
  intro κ C hQ hlκ hδκ hnL hini
  change gl_Cx κ RX11 _ _ _ at C
  refine j_aload_n C dX11_key_0 rfl 1 rfl ?_
  refine gf_X11_9_10 C hk hr5 dX11_key_1 4 rfl ?_
  refine j_alen C (by decide) hkl dX11_key_4 5 rfl ?_
  refine n_if_ne C 12 8 dX11_key_5 (by decide) rfl (by omega) (fun c_5 => ?_) (fun c_5 => ?_)
  · refine j_aload_n C dX11_key_12 rfl 13 rfl ?_
    refine gf_X11_9_10 C hk hr5 dX11_key_13 16 rfl ?_
    refine j_iconst (v := nI 0) C dX11_key_16 (by decide) 17 rfl ?_
    refine j_iald C hkl (by omega) hm dX11_key_17 18 rfl ?_
    exact j_iret C hQ ⟨by rw [if_neg c_5], rfl⟩ (by omega) (by omega) dX11_key_18
  · refine j_iconst (v := nI 0) C dX11_key_8 (by decide) 9 rfl ?_
    refine j_goto (tgt := 18) C dX11_key_9 (by decide) ?_
    exact j_iret C hQ ⟨by rw [if_pos c_5], rfl⟩ (by omega) (by omega) dX11_key_18
set_option maxHeartbeats 4000000 in
set_option maxRecDepth 100000 in
theorem ct_X11_key_11 {l : Launch} {δ : gl_Del} {Λ : gl_Lay} {I : Nat → Nat → Int32} {L : Nat → Nat → Int64} {B : Nat → Nat → Bool} {R : Nat → Nat → Option Nat} {p x kl m : Nat} (h : Nat) (hh : 1 ≤ h) (hk : Λ.2 p = (19, x)) (hr5 : R p 5 = some kl) (hkl : Λ.2 kl = (0, m)) (hm : m < 2 ^ 31) : gl_Ct l δ yX11_key (ws_ yX11_key cX11_key 1 ((some FieldType.int))) (gl_rm h 0 0) 0 0 [.ref p] (Λ, I, L, B, R) (gl_Qi fun r S1 => r = (if m = 0 then nI 0 else I kl 0) ∧ S1 = (Λ, I, L, B, R)) := by
  refine gl_of (by decide) (Nat.le_of_ble_eq_true rfl) rfl ?_
  intro κ C hQ hlκ hδκ hnL hini
  change gl_Cx κ RX11 _ _ _ at C
  refine j_aload_n C dX11_key_0 rfl 1 rfl ?_
  refine gf_X11_9_11 C hk hr5 dX11_key_1 4 rfl ?_
  refine j_alen C (by decide) hkl dX11_key_4 5 rfl ?_
  refine n_if_ne C 12 8 dX11_key_5 (by decide) rfl (by omega) (fun c_5 => ?_) (fun c_5 => ?_)
  · refine j_aload_n C dX11_key_12 rfl 13 rfl ?_
    refine gf_X11_9_11 C hk hr5 dX11_key_13 16 rfl ?_
    refine j_iconst (v := nI 0) C dX11_key_16 (by decide) 17 rfl ?_
    refine j_iald C hkl (by omega) hm dX11_key_17 18 rfl ?_
    exact j_iret C hQ ⟨by rw [if_neg c_5], rfl⟩ (by omega) (by omega) dX11_key_18
  · refine j_iconst (v := nI 0) C dX11_key_8 (by decide) 9 rfl ?_
    refine j_goto (tgt := 18) C dX11_key_9 (by decide) ?_
    exact j_iret C hQ ⟨by rw [if_pos c_5], rfl⟩ (by omega) (by omega) dX11_key_18
set_option maxHeartbeats 4000000 in
set_option maxRecDepth 100000 in
theorem ct_X10_become_10 {l : Launch} {δ : gl_Del} {N : Nat} {sh : Nat → Nat × Nat} {I : Nat → Nat → Int32} {L : Nat → Nat → Int64} {B : Nat → Nat → Bool} {R : Nat → Nat → Option Nat} {p q st n8 : Nat} (h : Nat) (hh : 3 ≤ h) (hk : sh p = (18, 0)) (hk2 : sh q = (18, 0)) (hpq : p ≠ q) (hpN : p < N) (hs : R q 4 = some st) (hst : sh st = (0, n8)) (hsN : st < N) (hsp : st ≠ p) (hb : n8 < 2 ^ 24) : gl_Ct l δ yX10_become (ws_ yX10_become cX10_become 2 ((some (FieldType.object "GlassLog$Proof")))) (gl_rm h 1 n8) 1 n8 [.ref p, .ref q] ((N, sh), I, L, B, R) (gl_Qr fun o S => o = some p ∧ ∃ r : Nat → Int32, (∀ t, t < n8 → r t = I st t) ∧ S = ((N + 1, va_up sh N (0, n8)), va_up (gl_u2 (gl_u2 (gl_u2 (gl_u2 I p 0 (I q 0)) p 1 (I q 1)) p 2 (I q 2)) p 3 (I q 3)) N r, va_up L N (fun _ => 0), va_up B N (fun _ => false), gl_u2 (va_up R N (fun _ => none)) p 4 (some N))) := by
  refine gl_of (by decide) (Nat.le_of_ble_eq_true rfl) rfl ?_
  intro κ C hQ hlκ hδκ hnL hini
  change gl_Cx κ RX10 _ _ _ at C
  refine j_aload_n C dX10_become_0 rfl 1 rfl ?_
  refine j_aload_n C dX10_become_1 rfl 2 rfl ?_
  refine gf_X10_9_10 C hk2 dX10_become_2 5 rfl ?_
  refine pf_X10_9_10 C hk dX10_become_5 8 rfl ?_
  refine j_aload_n C dX10_become_8 rfl 9 rfl ?_
  refine j_aload_n C dX10_become_9 rfl 10 rfl ?_
  refine gf_X10_15_10 C hk2 dX10_become_10 13 rfl ?_
  rw [gl_u2_ne (show q ≠ p by omega)]
  refine pf_X10_15_10 C hk dX10_become_13 16 rfl ?_
  refine j_aload_n C dX10_become_16 rfl 17 rfl ?_
  refine j_aload_n C dX10_become_17 rfl 18 rfl ?_
  refine gf_X10_18_10 C hk2 dX10_become_18 21 rfl ?_
  rw [gl_u2_ne (show q ≠ p by omega), gl_u2_ne (show q ≠ p by omega)]
  refine pf_X10_18_10 C hk dX10_become_21 24 rfl ?_
  refine j_aload_n C dX10_become_24 rfl 25 rfl ?_
  refine j_aload_n C dX10_become_25 rfl 26 rfl ?_
  refine gf_X10_21_10 C hk2 dX10_become_26 29 rfl ?_
  rw [gl_u2_ne (show q ≠ p by omega), gl_u2_ne (show q ≠ p by omega), gl_u2_ne (show q ≠ p by omega)]
  refine pf_X10_21_10 C hk dX10_become_29 32 rfl ?_
  refine j_aload_n C dX10_become_32 rfl 33 rfl ?_
  refine j_aload_n C dX10_become_33 rfl 34 rfl ?_
  refine gf_X10_24_10 C hk2 hs dX10_become_34 37 rfl ?_
  refine j_aload_n C dX10_become_37 rfl 38 rfl ?_
  refine gf_X10_24_10 C hk2 hs dX10_become_38 41 rfl ?_
  refine j_alen C (by decide) hst dX10_become_41 42 rfl ?_
  refine j_cr C (cs_X10_28 C (ct_J1_copyOfI (c := st) (n := n8) (len := n8) (h - 1) (by omega) hst hsN (Nat.le_refl _) hb) rfl (by omega) (by omega) (by omega) rfl (Nat.le_of_ble_eq_true rfl) dX10_become_42) 45 rfl ?_
  rintro _ _ ⟨rfl, r, hr_, rfl⟩
  refine pf_X10_24_10 C (x := 0) (by show va_up sh N (0, n8) p = _; rw [gl_up_ne (by omega)]; exact hk) dX10_become_45 48 rfl ?_
  refine j_aload_n C dX10_become_48 rfl 49 rfl ?_
  exact j_aret C (Or.inl ⟨_, rfl⟩) hQ ⟨rfl, r, fun t ht => by rw [hr_ t ht, gl_u2_ne (show st ≠ p by omega), gl_u2_ne (show st ≠ p by omega), gl_u2_ne (show st ≠ p by omega), gl_u2_ne (show st ≠ p by omega)], rfl⟩ (by omega) (by omega) dX10_become_49
set_option maxHeartbeats 4000000 in
set_option maxRecDepth 100000 in
theorem ct_X10_become_11 {l : Launch} {δ : gl_Del} {N : Nat} {sh : Nat → Nat × Nat} {I : Nat → Nat → Int32} {L : Nat → Nat → Int64} {B : Nat → Nat → Bool} {R : Nat → Nat → Option Nat} {p q st n8 : Nat} (h : Nat) (hh : 3 ≤ h) (hk : sh p = (19, 0)) (hk2 : sh q = (19, 0)) (hpq : p ≠ q) (hpN : p < N) (hs : R q 4 = some st) (hst : sh st = (0, n8)) (hsN : st < N) (hsp : st ≠ p) (hb : n8 < 2 ^ 24) : gl_Ct l δ yX10_become (ws_ yX10_become cX10_become 2 ((some (FieldType.object "GlassLog$Proof")))) (gl_rm h 1 n8) 1 n8 [.ref p, .ref q] ((N, sh), I, L, B, R) (gl_Qr fun o S => o = some p ∧ ∃ r : Nat → Int32, (∀ t, t < n8 → r t = I st t) ∧ S = ((N + 1, va_up sh N (0, n8)), va_up (gl_u2 (gl_u2 (gl_u2 (gl_u2 I p 0 (I q 0)) p 1 (I q 1)) p 2 (I q 2)) p 3 (I q 3)) N r, va_up L N (fun _ => 0), va_up B N (fun _ => false), gl_u2 (va_up R N (fun _ => none)) p 4 (some N))) := by
  refine gl_of (by decide) (Nat.le_of_ble_eq_true rfl) rfl ?_
  intro κ C hQ hlκ hδκ hnL hini
  change gl_Cx κ RX10 _ _ _ at C
  refine j_aload_n C dX10_become_0 rfl 1 rfl ?_
  refine j_aload_n C dX10_become_1 rfl 2 rfl ?_
  refine gf_X10_9_11 C hk2 dX10_become_2 5 rfl ?_
  refine pf_X10_9_11 C hk dX10_become_5 8 rfl ?_
  refine j_aload_n C dX10_become_8 rfl 9 rfl ?_
  refine j_aload_n C dX10_become_9 rfl 10 rfl ?_
  refine gf_X10_15_11 C hk2 dX10_become_10 13 rfl ?_
  rw [gl_u2_ne (show q ≠ p by omega)]
  refine pf_X10_15_11 C hk dX10_become_13 16 rfl ?_
  refine j_aload_n C dX10_become_16 rfl 17 rfl ?_
  refine j_aload_n C dX10_become_17 rfl 18 rfl ?_
  refine gf_X10_18_11 C hk2 dX10_become_18 21 rfl ?_
  rw [gl_u2_ne (show q ≠ p by omega), gl_u2_ne (show q ≠ p by omega)]
  refine pf_X10_18_11 C hk dX10_become_21 24 rfl ?_
  refine j_aload_n C dX10_become_24 rfl 25 rfl ?_
  refine j_aload_n C dX10_become_25 rfl 26 rfl ?_
  refine gf_X10_21_11 C hk2 dX10_become_26 29 rfl ?_
  rw [gl_u2_ne (show q ≠ p by omega), gl_u2_ne (show q ≠ p by omega), gl_u2_ne (show q ≠ p by omega)]
  refine pf_X10_21_11 C hk dX10_become_29 32 rfl ?_
  refine j_aload_n C dX10_become_32 rfl 33 rfl ?_
  refine j_aload_n C dX10_become_33 rfl 34 rfl ?_
  refine gf_X10_24_11 C hk2 hs dX10_become_34 37 rfl ?_
  refine j_aload_n C dX10_become_37 rfl 38 rfl ?_
  refine gf_X10_24_11 C hk2 hs dX10_become_38 41 rfl ?_
  refine j_alen C (by decide) hst dX10_become_41 42 rfl ?_
  refine j_cr C (cs_X10_28 C (ct_J1_copyOfI (c := st) (n := n8) (len := n8) (h - 1) (by omega) hst hsN (Nat.le_refl _) hb) rfl (by omega) (by omega) (by omega) rfl (Nat.le_of_ble_eq_true rfl) dX10_become_42) 45 rfl ?_
  rintro _ _ ⟨rfl, r, hr_, rfl⟩
  refine pf_X10_24_11 C (x := 0) (by show va_up sh N (0, n8) p = _; rw [gl_up_ne (by omega)]; exact hk) dX10_become_45 48 rfl ?_
  refine j_aload_n C dX10_become_48 rfl 49 rfl ?_
  exact j_aret C (Or.inl ⟨_, rfl⟩) hQ ⟨rfl, r, fun t ht => by rw [hr_ t ht, gl_u2_ne (show st ≠ p by omega), gl_u2_ne (show st ≠ p by omega), gl_u2_ne (show st ≠ p by omega), gl_u2_ne (show st ≠ p by omega)], rfl⟩ (by omega) (by omega) dX10_become_49
set_option maxHeartbeats 4000000 in
set_option maxRecDepth 100000 in
theorem ct_X10_become_12 {l : Launch} {δ : gl_Del} {N : Nat} {sh : Nat → Nat × Nat} {I : Nat → Nat → Int32} {L : Nat → Nat → Int64} {B : Nat → Nat → Bool} {R : Nat → Nat → Option Nat} {p q st n8 : Nat} (h : Nat) (hh : 3 ≤ h) (hk : sh p = (20, 0)) (hk2 : sh q = (20, 0)) (hpq : p ≠ q) (hpN : p < N) (hs : R q 4 = some st) (hst : sh st = (0, n8)) (hsN : st < N) (hsp : st ≠ p) (hb : n8 < 2 ^ 24) : gl_Ct l δ yX10_become (ws_ yX10_become cX10_become 2 ((some (FieldType.object "GlassLog$Proof")))) (gl_rm h 1 n8) 1 n8 [.ref p, .ref q] ((N, sh), I, L, B, R) (gl_Qr fun o S => o = some p ∧ ∃ r : Nat → Int32, (∀ t, t < n8 → r t = I st t) ∧ S = ((N + 1, va_up sh N (0, n8)), va_up (gl_u2 (gl_u2 (gl_u2 (gl_u2 I p 0 (I q 0)) p 1 (I q 1)) p 2 (I q 2)) p 3 (I q 3)) N r, va_up L N (fun _ => 0), va_up B N (fun _ => false), gl_u2 (va_up R N (fun _ => none)) p 4 (some N))) := by
  refine gl_of (by decide) (Nat.le_of_ble_eq_true rfl) rfl ?_
  intro κ C hQ hlκ hδκ hnL hini
  change gl_Cx κ RX10 _ _ _ at C
  refine j_aload_n C dX10_become_0 rfl 1 rfl ?_
  refine j_aload_n C dX10_become_1 rfl 2 rfl ?_
  refine gf_X10_9_12 C hk2 dX10_become_2 5 rfl ?_
  refine pf_X10_9_12 C hk dX10_become_5 8 rfl ?_
  refine j_aload_n C dX10_become_8 rfl 9 rfl ?_
  refine j_aload_n C dX10_become_9 rfl 10 rfl ?_
  refine gf_X10_15_12 C hk2 dX10_become_10 13 rfl ?_
  rw [gl_u2_ne (show q ≠ p by omega)]
  refine pf_X10_15_12 C hk dX10_become_13 16 rfl ?_
  refine j_aload_n C dX10_become_16 rfl 17 rfl ?_
  refine j_aload_n C dX10_become_17 rfl 18 rfl ?_
  refine gf_X10_18_12 C hk2 dX10_become_18 21 rfl ?_
  rw [gl_u2_ne (show q ≠ p by omega), gl_u2_ne (show q ≠ p by omega)]
  refine pf_X10_18_12 C hk dX10_become_21 24 rfl ?_
  refine j_aload_n C dX10_become_24 rfl 25 rfl ?_
  refine j_aload_n C dX10_become_25 rfl 26 rfl ?_
  refine gf_X10_21_12 C hk2 dX10_become_26 29 rfl ?_
  rw [gl_u2_ne (show q ≠ p by omega), gl_u2_ne (show q ≠ p by omega), gl_u2_ne (show q ≠ p by omega)]
  refine pf_X10_21_12 C hk dX10_become_29 32 rfl ?_
  refine j_aload_n C dX10_become_32 rfl 33 rfl ?_
  refine j_aload_n C dX10_become_33 rfl 34 rfl ?_
  refine gf_X10_24_12 C hk2 hs dX10_become_34 37 rfl ?_
  refine j_aload_n C dX10_become_37 rfl 38 rfl ?_
  refine gf_X10_24_12 C hk2 hs dX10_become_38 41 rfl ?_
  refine j_alen C (by decide) hst dX10_become_41 42 rfl ?_
  refine j_cr C (cs_X10_28 C (ct_J1_copyOfI (c := st) (n := n8) (len := n8) (h - 1) (by omega) hst hsN (Nat.le_refl _) hb) rfl (by omega) (by omega) (by omega) rfl (Nat.le_of_ble_eq_true rfl) dX10_become_42) 45 rfl ?_
  rintro _ _ ⟨rfl, r, hr_, rfl⟩
  refine pf_X10_24_12 C (x := 0) (by show va_up sh N (0, n8) p = _; rw [gl_up_ne (by omega)]; exact hk) dX10_become_45 48 rfl ?_
  refine j_aload_n C dX10_become_48 rfl 49 rfl ?_
  exact j_aret C (Or.inl ⟨_, rfl⟩) hQ ⟨rfl, r, fun t ht => by rw [hr_ t ht, gl_u2_ne (show st ≠ p by omega), gl_u2_ne (show st ≠ p by omega), gl_u2_ne (show st ≠ p by omega), gl_u2_ne (show st ≠ p by omega)], rfl⟩ (by omega) (by omega) dX10_become_49
set_option maxHeartbeats 4000000 in
set_option maxRecDepth 100000 in
theorem ct_X10_become_13 {l : Launch} {δ : gl_Del} {N : Nat} {sh : Nat → Nat × Nat} {I : Nat → Nat → Int32} {L : Nat → Nat → Int64} {B : Nat → Nat → Bool} {R : Nat → Nat → Option Nat} {p q st n8 : Nat} (h : Nat) (hh : 3 ≤ h) (hk : sh p = (21, 0)) (hk2 : sh q = (21, 0)) (hpq : p ≠ q) (hpN : p < N) (hs : R q 4 = some st) (hst : sh st = (0, n8)) (hsN : st < N) (hsp : st ≠ p) (hb : n8 < 2 ^ 24) : gl_Ct l δ yX10_become (ws_ yX10_become cX10_become 2 ((some (FieldType.object "GlassLog$Proof")))) (gl_rm h 1 n8) 1 n8 [.ref p, .ref q] ((N, sh), I, L, B, R) (gl_Qr fun o S => o = some p ∧ ∃ r : Nat → Int32, (∀ t, t < n8 → r t = I st t) ∧ S = ((N + 1, va_up sh N (0, n8)), va_up (gl_u2 (gl_u2 (gl_u2 (gl_u2 I p 0 (I q 0)) p 1 (I q 1)) p 2 (I q 2)) p 3 (I q 3)) N r, va_up L N (fun _ => 0), va_up B N (fun _ => false), gl_u2 (va_up R N (fun _ => none)) p 4 (some N))) := by
  refine gl_of (by decide) (Nat.le_of_ble_eq_true rfl) rfl ?_
  intro κ C hQ hlκ hδκ hnL hini
  change gl_Cx κ RX10 _ _ _ at C
  refine j_aload_n C dX10_become_0 rfl 1 rfl ?_
  refine j_aload_n C dX10_become_1 rfl 2 rfl ?_
  refine gf_X10_9_13 C hk2 dX10_become_2 5 rfl ?_
  refine pf_X10_9_13 C hk dX10_become_5 8 rfl ?_
  refine j_aload_n C dX10_become_8 rfl 9 rfl ?_
  refine j_aload_n C dX10_become_9 rfl 10 rfl ?_
  refine gf_X10_15_13 C hk2 dX10_become_10 13 rfl ?_
  rw [gl_u2_ne (show q ≠ p by omega)]
  refine pf_X10_15_13 C hk dX10_become_13 16 rfl ?_
  refine j_aload_n C dX10_become_16 rfl 17 rfl ?_
  refine j_aload_n C dX10_become_17 rfl 18 rfl ?_
  refine gf_X10_18_13 C hk2 dX10_become_18 21 rfl ?_
  rw [gl_u2_ne (show q ≠ p by omega), gl_u2_ne (show q ≠ p by omega)]
  refine pf_X10_18_13 C hk dX10_become_21 24 rfl ?_
  refine j_aload_n C dX10_become_24 rfl 25 rfl ?_
  refine j_aload_n C dX10_become_25 rfl 26 rfl ?_
  refine gf_X10_21_13 C hk2 dX10_become_26 29 rfl ?_
  rw [gl_u2_ne (show q ≠ p by omega), gl_u2_ne (show q ≠ p by omega), gl_u2_ne (show q ≠ p by omega)]
  refine pf_X10_21_13 C hk dX10_become_29 32 rfl ?_
  refine j_aload_n C dX10_become_32 rfl 33 rfl ?_
  refine j_aload_n C dX10_become_33 rfl 34 rfl ?_
  refine gf_X10_24_13 C hk2 hs dX10_become_34 37 rfl ?_
  refine j_aload_n C dX10_become_37 rfl 38 rfl ?_
  refine gf_X10_24_13 C hk2 hs dX10_become_38 41 rfl ?_
  refine j_alen C (by decide) hst dX10_become_41 42 rfl ?_
  refine j_cr C (cs_X10_28 C (ct_J1_copyOfI (c := st) (n := n8) (len := n8) (h - 1) (by omega) hst hsN (Nat.le_refl _) hb) rfl (by omega) (by omega) (by omega) rfl (Nat.le_of_ble_eq_true rfl) dX10_become_42) 45 rfl ?_
  rintro _ _ ⟨rfl, r, hr_, rfl⟩
  refine pf_X10_24_13 C (x := 0) (by show va_up sh N (0, n8) p = _; rw [gl_up_ne (by omega)]; exact hk) dX10_become_45 48 rfl ?_
  refine j_aload_n C dX10_become_48 rfl 49 rfl ?_
  exact j_aret C (Or.inl ⟨_, rfl⟩) hQ ⟨rfl, r, fun t ht => by rw [hr_ t ht, gl_u2_ne (show st ≠ p by omega), gl_u2_ne (show st ≠ p by omega), gl_u2_ne (show st ≠ p by omega), gl_u2_ne (show st ≠ p by omega)], rfl⟩ (by omega) (by omega) dX10_become_49
set_option maxHeartbeats 4000000 in
set_option maxRecDepth 100000 in
theorem ct_X10_become_14 {l : Launch} {δ : gl_Del} {N : Nat} {sh : Nat → Nat × Nat} {I : Nat → Nat → Int32} {L : Nat → Nat → Int64} {B : Nat → Nat → Bool} {R : Nat → Nat → Option Nat} {p q st n8 : Nat} (h : Nat) (hh : 3 ≤ h) (hk : sh p = (22, 0)) (hk2 : sh q = (22, 0)) (hpq : p ≠ q) (hpN : p < N) (hs : R q 4 = some st) (hst : sh st = (0, n8)) (hsN : st < N) (hsp : st ≠ p) (hb : n8 < 2 ^ 24) : gl_Ct l δ yX10_become (ws_ yX10_become cX10_become 2 ((some (FieldType.object "GlassLog$Proof")))) (gl_rm h 1 n8) 1 n8 [.ref p, .ref q] ((N, sh), I, L, B, R) (gl_Qr fun o S => o = some p ∧ ∃ r : Nat → Int32, (∀ t, t < n8 → r t = I st t) ∧ S = ((N + 1, va_up sh N (0, n8)), va_up (gl_u2 (gl_u2 (gl_u2 (gl_u2 I p 0 (I q 0)) p 1 (I q 1)) p 2 (I q 2)) p 3 (I q 3)) N r, va_up L N (fun _ => 0), va_up B N (fun _ => false), gl_u2 (va_up R N (fun _ => none)) p 4 (some N))) := by
  refine gl_of (by decide) (Nat.le_of_ble_eq_true rfl) rfl ?_
  intro κ C hQ hlκ hδκ hnL hini
  change gl_Cx κ RX10 _ _ _ at C
  refine j_aload_n C dX10_become_0 rfl 1 rfl ?_
  refine j_aload_n C dX10_become_1 rfl 2 rfl ?_
  refine gf_X10_9_14 C hk2 dX10_become_2 5 rfl ?_
  refine pf_X10_9_14 C hk dX10_become_5 8 rfl ?_
  refine j_aload_n C dX10_become_8 rfl 9 rfl ?_
  refine j_aload_n C dX10_become_9 rfl 10 rfl ?_
  refine gf_X10_15_14 C hk2 dX10_become_10 13 rfl ?_
  rw [gl_u2_ne (show q ≠ p by omega)]
  refine pf_X10_15_14 C hk dX10_become_13 16 rfl ?_
  refine j_aload_n C dX10_become_16 rfl 17 rfl ?_
  refine j_aload_n C dX10_become_17 rfl 18 rfl ?_
  refine gf_X10_18_14 C hk2 dX10_become_18 21 rfl ?_
  rw [gl_u2_ne (show q ≠ p by omega), gl_u2_ne (show q ≠ p by omega)]
  refine pf_X10_18_14 C hk dX10_become_21 24 rfl ?_
  refine j_aload_n C dX10_become_24 rfl 25 rfl ?_
  refine j_aload_n C dX10_become_25 rfl 26 rfl ?_
  refine gf_X10_21_14 C hk2 dX10_become_26 29 rfl ?_
  rw [gl_u2_ne (show q ≠ p by omega), gl_u2_ne (show q ≠ p by omega), gl_u2_ne (show q ≠ p by omega)]
  refine pf_X10_21_14 C hk dX10_become_29 32 rfl ?_
  refine j_aload_n C dX10_become_32 rfl 33 rfl ?_
  refine j_aload_n C dX10_become_33 rfl 34 rfl ?_
  refine gf_X10_24_14 C hk2 hs dX10_become_34 37 rfl ?_
  refine j_aload_n C dX10_become_37 rfl 38 rfl ?_
  refine gf_X10_24_14 C hk2 hs dX10_become_38 41 rfl ?_
  refine j_alen C (by decide) hst dX10_become_41 42 rfl ?_
  refine j_cr C (cs_X10_28 C (ct_J1_copyOfI (c := st) (n := n8) (len := n8) (h - 1) (by omega) hst hsN (Nat.le_refl _) hb) rfl (by omega) (by omega) (by omega) rfl (Nat.le_of_ble_eq_true rfl) dX10_become_42) 45 rfl ?_
  rintro _ _ ⟨rfl, r, hr_, rfl⟩
  refine pf_X10_24_14 C (x := 0) (by show va_up sh N (0, n8) p = _; rw [gl_up_ne (by omega)]; exact hk) dX10_become_45 48 rfl ?_
  refine j_aload_n C dX10_become_48 rfl 49 rfl ?_
  exact j_aret C (Or.inl ⟨_, rfl⟩) hQ ⟨rfl, r, fun t ht => by rw [hr_ t ht, gl_u2_ne (show st ≠ p by omega), gl_u2_ne (show st ≠ p by omega), gl_u2_ne (show st ≠ p by omega), gl_u2_ne (show st ≠ p by omega)], rfl⟩ (by omega) (by omega) dX10_become_49
set_option maxHeartbeats 4000000 in
set_option maxRecDepth 100000 in
theorem ct_X10_piles_10 {l : Launch} {δ : gl_Del} {Λ : gl_Lay} {I : Nat → Nat → Int32} {L : Nat → Nat → Int64} {B : Nat → Nat → Bool} {R : Nat → Nat → Option Nat} {p st n8 a b fr : Nat} {p0 : gl_Pl} {row : Nat → Nat → Int32} (h : Nat) (hh : 6 ≤ h) (hk : Λ.2 p = (18, 0)) (hs : R p 4 = some st) (hst : Λ.2 st = (0, n8)) (hsr : st < 690 ∨ 695 ≤ st) (hb : n8 < 2 ^ 31) (hG : gl_GL Λ R) (hab : a ≤ b) (hb4 : b ≤ 400) (hgp : gl_gp I p0) (hsz : gl_sz p0 = a) (hin : gl_inc 0 p0) (hfr : (fr + (gl_bls b (b - a) a).length) * 8 ≤ n8) (hrw : ∀ u, (u + 1) * 8 ≤ n8 → ∀ t, t < 8 → I st (u * 8 + t) = row u t) : gl_Ct l δ yX10_piles (ws_ yX10_piles cX10_piles 8 ((some FieldType.int))) (gl_rm h 0 0) 0 0 [.ref p, .ref 692, .int (nI a), .int (nI b), .int (nI fr)] (Λ, I, L, B, R) (gl_Qi fun r S => r = nI (fr + (gl_bls b (b - a) a).length) ∧ ∃ I', S = (Λ, I', L, B, R) ∧ gl_fr 690 695 I I' ∧ gl_gp I' (gl_ls row b (b - a) a fr p0)) := by
  refine gl_of (by decide) (Nat.le_of_ble_eq_true rfl) rfl ?_
  intro κ C hQ hlκ hδκ hnL hini
  change gl_Cx κ RX10 _ _ _ at C
  have loop : ∀ (m at_ u : Nat) (p1 : gl_Pl) (I1 : Nat → Nat → Int32) (x7 : Option Value), at_ ≤ b → b - at_ ≤ m → gl_gp I1 p1 → gl_sz p1 = at_ → gl_inc 0 p1 → gl_fr 690 695 I I1 → gl_ls row b m at_ u p1 = gl_ls row b (b - a) a fr p0 → u + (gl_bls b m at_).length = fr + (gl_bls b (b - a) a).length → gl_J κ 0 0 (Λ, I1, L, B, R) 7 [some (.ref p), some (.ref 692), some (.int (nI a)), some (.int (nI b)), some (.int (nI fr)), some (.int (nI u)), some (.int (nI at_)), x7] [] := by
    intro m
    induction m with
    | zero =>
      intro at_ u p1 I1 x7 hat hm hg1 hs1 hi1 hf1 htg hu
      have e0 : at_ = b := by omega
      subst e0
      have hu : u + 0 = _ := hu
      refine j_iload C dX10_piles_7 rfl 9 rfl ?_
      refine j_iload_n C dX10_piles_9 rfl 10 rfl ?_
      refine n_icmp_ge C 51 13 dX10_piles_10 (by decide) rfl (by omega) (by omega) (fun c_10 => ?_) (fun c_10 => ?_)
      · refine j_iload C dX10_piles_51 rfl 53 rfl ?_
        exact j_iret C hQ ⟨by rw [← hu, Nat.add_zero], _, rfl, hf1, by rw [← htg]; exact hg1⟩ (by omega) (by omega) dX10_piles_53
      · exact absurd c_10 (by omega)
    | succ m ih =>
      intro at_ u p1 I1 x7 hat hm hg1 hs1 hi1 hf1 htg hu
      rcases Nat.lt_or_ge at_ b with hlt | hge
      · obtain ⟨e, he⟩ : ∃ e, e = gl_lv at_ b := ⟨_, rfl⟩
        have hv : at_ % 2 ^ e = 0 ∧ at_ + 2 ^ e ≤ b := by rw [he]; exact gl_lv_ok hlt
        have he9 : e ≤ 9 := by rw [he]; exact gl_lv_le
        have hlen := gl_inc_len hi1 (by decide) (by omega)
        have h0e : 0 < 2 ^ e := Nat.two_pow_pos e
        rw [gl_bls_s hlt, ← he, List.length_cons] at hu
        have hrow : ∀ t, t < 8 → I1 st (u * 8 + t) = row u t := by
          intro t ht
          rw [hf1 _ (by omega)]
          exact hrw u (by omega) t ht
        refine j_iload C dX10_piles_7 rfl 9 rfl ?_
        refine j_iload_n C dX10_piles_9 rfl 10 rfl ?_
        refine n_icmp_ge C 51 13 dX10_piles_10 (by decide) rfl (by omega) (by omega) (fun c_10 => ?_) (fun c_10 => ?_)
        · exact absurd c_10 (by omega)
        · refine j_iload C dX10_piles_13 rfl 15 rfl ?_
          refine j_iload_n C dX10_piles_15 rfl 16 rfl ?_
          refine j_ci C (cs_X10_34 C (ct_X0_level (h - 1) (by omega) (by omega) (by omega)) rfl (by omega) (by omega) (by omega) rfl (Nat.le_of_ble_eq_true rfl) dX10_piles_16) 19 rfl ?_
          rintro _ _ ⟨rfl, rfl⟩
          rw [← he]
          refine j_istore C dX10_piles_19 (Nat.le_of_ble_eq_true rfl) (by rw [hnL]; decide) rfl 21 rfl ?_
          refine j_aload_n C dX10_piles_21 rfl 22 rfl ?_
          refine j_iload C dX10_piles_22 rfl 24 rfl ?_
          refine j_aload_n C dX10_piles_24 rfl 25 rfl ?_
          refine gf_X10_24_10 C hk hs dX10_piles_25 28 rfl ?_
          refine j_iload C dX10_piles_28 rfl 30 rfl ?_
          refine j_bipush (v := nI 8) C dX10_piles_30 (by decide) 32 rfl ?_
          refine n_imul C dX10_piles_32 33 rfl ?_
          refine j_cv C (cs_X10_38 C (ct_X7_add (I := I1) (p := p1) (e := e) (x := st) (at_ := u * 8) (h - 1) (by omega) hG hg1 (by omega) (by omega) hst (by omega) hb) hG.p0 rfl (by omega) (by omega) (by omega) rfl (Nat.le_of_ble_eq_true rfl) dX10_piles_33) 36 rfl ?_
          rintro _ ⟨I2, rfl, hf2, hg2⟩
          refine j_iload C dX10_piles_36 rfl 38 rfl ?_
          refine j_iconst (v := nI 1) C dX10_piles_38 (by decide) 39 rfl ?_
          refine j_iload C dX10_piles_39 rfl 41 rfl ?_
          refine n_ishl C dX10_piles_41 (by omega) (by omega) 42 rfl ?_
          refine n_iadd C dX10_piles_42 43 rfl ?_
          rw [Nat.one_mul]
          refine j_istore C dX10_piles_43 (Nat.le_of_ble_eq_true rfl) (by rw [hnL]; decide) rfl 45 rfl ?_
          refine n_iinc C dX10_piles_45 rfl (by rw [hnL]; decide) rfl 48 rfl ?_
          refine j_goto (tgt := 7) C dX10_piles_48 (by decide) ?_
          rw [hs1, gl_lay_congr hrow] at hg2
          refine ih (at_ + 2 ^ e) (u + 1) (gl_lay at_ e (row u) p1) I2 _ (by omega) (by omega) hg2 (by rw [gl_sz_lay, hs1, Nat.add_comm]) ?_ (hf1.tr hf2) ?_ (by omega)
          · rw [← hs1]
            exact gl_inc_lay hi1 (by rw [hs1]; exact hv.1)
          · rw [← htg, gl_ls_s hlt, ← he]
      · have e0 : at_ = b := by omega
        subst e0
        rw [gl_bls_e, List.length_nil] at hu
        refine j_iload C dX10_piles_7 rfl 9 rfl ?_
        refine j_iload_n C dX10_piles_9 rfl 10 rfl ?_
        refine n_icmp_ge C 51 13 dX10_piles_10 (by decide) rfl (by omega) (by omega) (fun c_10 => ?_) (fun c_10 => ?_)
        · refine j_iload C dX10_piles_51 rfl 53 rfl ?_
          exact j_iret C hQ ⟨by rw [← hu, Nat.add_zero], _, rfl, hf1, by rw [← htg, gl_ls_end]; exact hg1⟩ (by omega) (by omega) dX10_piles_53
        · exact absurd c_10 (by omega)
  refine j_iload C dX10_piles_0 rfl 2 rfl ?_
  refine j_istore C dX10_piles_2 (Nat.le_of_ble_eq_true rfl) (by rw [hnL]; decide) rfl 4 rfl ?_
  refine j_iload_n C dX10_piles_4 rfl 5 rfl ?_
  refine j_istore C dX10_piles_5 (Nat.le_of_ble_eq_true rfl) (by rw [hnL]; decide) rfl 7 rfl ?_
  exact loop (b - a) a fr p0 I none hab (Nat.le_refl _) hgp hsz hin gl_fr.rf rfl rfl
set_option maxHeartbeats 4000000 in
set_option maxRecDepth 100000 in
theorem ct_X10_piles_11 {l : Launch} {δ : gl_Del} {Λ : gl_Lay} {I : Nat → Nat → Int32} {L : Nat → Nat → Int64} {B : Nat → Nat → Bool} {R : Nat → Nat → Option Nat} {p st n8 a b fr : Nat} {p0 : gl_Pl} {row : Nat → Nat → Int32} (h : Nat) (hh : 6 ≤ h) (hk : Λ.2 p = (19, 0)) (hs : R p 4 = some st) (hst : Λ.2 st = (0, n8)) (hsr : st < 690 ∨ 695 ≤ st) (hb : n8 < 2 ^ 31) (hG : gl_GL Λ R) (hab : a ≤ b) (hb4 : b ≤ 400) (hgp : gl_gp I p0) (hsz : gl_sz p0 = a) (hin : gl_inc 0 p0) (hfr : (fr + (gl_bls b (b - a) a).length) * 8 ≤ n8) (hrw : ∀ u, (u + 1) * 8 ≤ n8 → ∀ t, t < 8 → I st (u * 8 + t) = row u t) : gl_Ct l δ yX10_piles (ws_ yX10_piles cX10_piles 8 ((some FieldType.int))) (gl_rm h 0 0) 0 0 [.ref p, .ref 692, .int (nI a), .int (nI b), .int (nI fr)] (Λ, I, L, B, R) (gl_Qi fun r S => r = nI (fr + (gl_bls b (b - a) a).length) ∧ ∃ I', S = (Λ, I', L, B, R) ∧ gl_fr 690 695 I I' ∧ gl_gp I' (gl_ls row b (b - a) a fr p0)) := by
  refine gl_of (by decide) (Nat.le_of_ble_eq_true rfl) rfl ?_
  intro κ C hQ hlκ hδκ hnL hini
  change gl_Cx κ RX10 _ _ _ at C
  have loop : ∀ (m at_ u : Nat) (p1 : gl_Pl) (I1 : Nat → Nat → Int32) (x7 : Option Value), at_ ≤ b → b - at_ ≤ m → gl_gp I1 p1 → gl_sz p1 = at_ → gl_inc 0 p1 → gl_fr 690 695 I I1 → gl_ls row b m at_ u p1 = gl_ls row b (b - a) a fr p0 → u + (gl_bls b m at_).length = fr + (gl_bls b (b - a) a).length → gl_J κ 0 0 (Λ, I1, L, B, R) 7 [some (.ref p), some (.ref 692), some (.int (nI a)), some (.int (nI b)), some (.int (nI fr)), some (.int (nI u)), some (.int (nI at_)), x7] [] := by
    intro m
    induction m with
    | zero =>
      intro at_ u p1 I1 x7 hat hm hg1 hs1 hi1 hf1 htg hu
      have e0 : at_ = b := by omega
      subst e0
      have hu : u + 0 = _ := hu
      refine j_iload C dX10_piles_7 rfl 9 rfl ?_
      refine j_iload_n C dX10_piles_9 rfl 10 rfl ?_
      refine n_icmp_ge C 51 13 dX10_piles_10 (by decide) rfl (by omega) (by omega) (fun c_10 => ?_) (fun c_10 => ?_)
      · refine j_iload C dX10_piles_51 rfl 53 rfl ?_
        exact j_iret C hQ ⟨by rw [← hu, Nat.add_zero], _, rfl, hf1, by rw [← htg]; exact hg1⟩ (by omega) (by omega) dX10_piles_53
      · exact absurd c_10 (by omega)
    | succ m ih =>
      intro at_ u p1 I1 x7 hat hm hg1 hs1 hi1 hf1 htg hu
      rcases Nat.lt_or_ge at_ b with hlt | hge
      · obtain ⟨e, he⟩ : ∃ e, e = gl_lv at_ b := ⟨_, rfl⟩
        have hv : at_ % 2 ^ e = 0 ∧ at_ + 2 ^ e ≤ b := by rw [he]; exact gl_lv_ok hlt
        have he9 : e ≤ 9 := by rw [he]; exact gl_lv_le
        have hlen := gl_inc_len hi1 (by decide) (by omega)
        have h0e : 0 < 2 ^ e := Nat.two_pow_pos e
        rw [gl_bls_s hlt, ← he, List.length_cons] at hu
        have hrow : ∀ t, t < 8 → I1 st (u * 8 + t) = row u t := by
          intro t ht
          rw [hf1 _ (by omega)]
          exact hrw u (by omega) t ht
        refine j_iload C dX10_piles_7 rfl 9 rfl ?_
        refine j_iload_n C dX10_piles_9 rfl 10 rfl ?_
        refine n_icmp_ge C 51 13 dX10_piles_10 (by decide) rfl (by omega) (by omega) (fun c_10 => ?_) (fun c_10 => ?_)
        · exact absurd c_10 (by omega)
        · refine j_iload C dX10_piles_13 rfl 15 rfl ?_
          refine j_iload_n C dX10_piles_15 rfl 16 rfl ?_
          refine j_ci C (cs_X10_34 C (ct_X0_level (h - 1) (by omega) (by omega) (by omega)) rfl (by omega) (by omega) (by omega) rfl (Nat.le_of_ble_eq_true rfl) dX10_piles_16) 19 rfl ?_
          rintro _ _ ⟨rfl, rfl⟩
          rw [← he]
          refine j_istore C dX10_piles_19 (Nat.le_of_ble_eq_true rfl) (by rw [hnL]; decide) rfl 21 rfl ?_
          refine j_aload_n C dX10_piles_21 rfl 22 rfl ?_
          refine j_iload C dX10_piles_22 rfl 24 rfl ?_
          refine j_aload_n C dX10_piles_24 rfl 25 rfl ?_
          refine gf_X10_24_11 C hk hs dX10_piles_25 28 rfl ?_
          refine j_iload C dX10_piles_28 rfl 30 rfl ?_
          refine j_bipush (v := nI 8) C dX10_piles_30 (by decide) 32 rfl ?_
          refine n_imul C dX10_piles_32 33 rfl ?_
          refine j_cv C (cs_X10_38 C (ct_X7_add (I := I1) (p := p1) (e := e) (x := st) (at_ := u * 8) (h - 1) (by omega) hG hg1 (by omega) (by omega) hst (by omega) hb) hG.p0 rfl (by omega) (by omega) (by omega) rfl (Nat.le_of_ble_eq_true rfl) dX10_piles_33) 36 rfl ?_
          rintro _ ⟨I2, rfl, hf2, hg2⟩
          refine j_iload C dX10_piles_36 rfl 38 rfl ?_
          refine j_iconst (v := nI 1) C dX10_piles_38 (by decide) 39 rfl ?_
          refine j_iload C dX10_piles_39 rfl 41 rfl ?_
          refine n_ishl C dX10_piles_41 (by omega) (by omega) 42 rfl ?_
          refine n_iadd C dX10_piles_42 43 rfl ?_
          rw [Nat.one_mul]
          refine j_istore C dX10_piles_43 (Nat.le_of_ble_eq_true rfl) (by rw [hnL]; decide) rfl 45 rfl ?_
          refine n_iinc C dX10_piles_45 rfl (by rw [hnL]; decide) rfl 48 rfl ?_
          refine j_goto (tgt := 7) C dX10_piles_48 (by decide) ?_
          rw [hs1, gl_lay_congr hrow] at hg2
          refine ih (at_ + 2 ^ e) (u + 1) (gl_lay at_ e (row u) p1) I2 _ (by omega) (by omega) hg2 (by rw [gl_sz_lay, hs1, Nat.add_comm]) ?_ (hf1.tr hf2) ?_ (by omega)
          · rw [← hs1]
            exact gl_inc_lay hi1 (by rw [hs1]; exact hv.1)
          · rw [← htg, gl_ls_s hlt, ← he]
      · have e0 : at_ = b := by omega
        subst e0
        rw [gl_bls_e, List.length_nil] at hu
        refine j_iload C dX10_piles_7 rfl 9 rfl ?_
        refine j_iload_n C dX10_piles_9 rfl 10 rfl ?_
        refine n_icmp_ge C 51 13 dX10_piles_10 (by decide) rfl (by omega) (by omega) (fun c_10 => ?_) (fun c_10 => ?_)
        · refine j_iload C dX10_piles_51 rfl 53 rfl ?_
          exact j_iret C hQ ⟨by rw [← hu, Nat.add_zero], _, rfl, hf1, by rw [← htg, gl_ls_end]; exact hg1⟩ (by omega) (by omega) dX10_piles_53
        · exact absurd c_10 (by omega)
  refine j_iload C dX10_piles_0 rfl 2 rfl ?_
  refine j_istore C dX10_piles_2 (Nat.le_of_ble_eq_true rfl) (by rw [hnL]; decide) rfl 4 rfl ?_
  refine j_iload_n C dX10_piles_4 rfl 5 rfl ?_
  refine j_istore C dX10_piles_5 (Nat.le_of_ble_eq_true rfl) (by rw [hnL]; decide) rfl 7 rfl ?_
  exact loop (b - a) a fr p0 I none hab (Nat.le_refl _) hgp hsz hin gl_fr.rf rfl rfl
set_option maxHeartbeats 4000000 in
set_option maxRecDepth 100000 in
theorem ct_X10_piles_12 {l : Launch} {δ : gl_Del} {Λ : gl_Lay} {I : Nat → Nat → Int32} {L : Nat → Nat → Int64} {B : Nat → Nat → Bool} {R : Nat → Nat → Option Nat} {p st n8 a b fr : Nat} {p0 : gl_Pl} {row : Nat → Nat → Int32} (h : Nat) (hh : 6 ≤ h) (hk : Λ.2 p = (20, 0)) (hs : R p 4 = some st) (hst : Λ.2 st = (0, n8)) (hsr : st < 690 ∨ 695 ≤ st) (hb : n8 < 2 ^ 31) (hG : gl_GL Λ R) (hab : a ≤ b) (hb4 : b ≤ 400) (hgp : gl_gp I p0) (hsz : gl_sz p0 = a) (hin : gl_inc 0 p0) (hfr : (fr + (gl_bls b (b - a) a).length) * 8 ≤ n8) (hrw : ∀ u, (u + 1) * 8 ≤ n8 → ∀ t, t < 8 → I st (u * 8 + t) = row u t) : gl_Ct l δ yX10_piles (ws_ yX10_piles cX10_piles 8 ((some FieldType.int))) (gl_rm h 0 0) 0 0 [.ref p, .ref 692, .int (nI a), .int (nI b), .int (nI fr)] (Λ, I, L, B, R) (gl_Qi fun r S => r = nI (fr + (gl_bls b (b - a) a).length) ∧ ∃ I', S = (Λ, I', L, B, R) ∧ gl_fr 690 695 I I' ∧ gl_gp I' (gl_ls row b (b - a) a fr p0)) := by
  refine gl_of (by decide) (Nat.le_of_ble_eq_true rfl) rfl ?_
  intro κ C hQ hlκ hδκ hnL hini
  change gl_Cx κ RX10 _ _ _ at C
  have loop : ∀ (m at_ u : Nat) (p1 : gl_Pl) (I1 : Nat → Nat → Int32) (x7 : Option Value), at_ ≤ b → b - at_ ≤ m → gl_gp I1 p1 → gl_sz p1 = at_ → gl_inc 0 p1 → gl_fr 690 695 I I1 → gl_ls row b m at_ u p1 = gl_ls row b (b - a) a fr p0 → u + (gl_bls b m at_).length = fr + (gl_bls b (b - a) a).length → gl_J κ 0 0 (Λ, I1, L, B, R) 7 [some (.ref p), some (.ref 692), some (.int (nI a)), some (.int (nI b)), some (.int (nI fr)), some (.int (nI u)), some (.int (nI at_)), x7] [] := by
    intro m
    induction m with
    | zero =>
      intro at_ u p1 I1 x7 hat hm hg1 hs1 hi1 hf1 htg hu
      have e0 : at_ = b := by omega
      subst e0
      have hu : u + 0 = _ := hu
      refine j_iload C dX10_piles_7 rfl 9 rfl ?_
      refine j_iload_n C dX10_piles_9 rfl 10 rfl ?_
      refine n_icmp_ge C 51 13 dX10_piles_10 (by decide) rfl (by omega) (by omega) (fun c_10 => ?_) (fun c_10 => ?_)
      · refine j_iload C dX10_piles_51 rfl 53 rfl ?_
        exact j_iret C hQ ⟨by rw [← hu, Nat.add_zero], _, rfl, hf1, by rw [← htg]; exact hg1⟩ (by omega) (by omega) dX10_piles_53
      · exact absurd c_10 (by omega)
    | succ m ih =>
      intro at_ u p1 I1 x7 hat hm hg1 hs1 hi1 hf1 htg hu
      rcases Nat.lt_or_ge at_ b with hlt | hge
      · obtain ⟨e, he⟩ : ∃ e, e = gl_lv at_ b := ⟨_, rfl⟩
        have hv : at_ % 2 ^ e = 0 ∧ at_ + 2 ^ e ≤ b := by rw [he]; exact gl_lv_ok hlt
        have he9 : e ≤ 9 := by rw [he]; exact gl_lv_le
        have hlen := gl_inc_len hi1 (by decide) (by omega)
        have h0e : 0 < 2 ^ e := Nat.two_pow_pos e
        rw [gl_bls_s hlt, ← he, List.length_cons] at hu
        have hrow : ∀ t, t < 8 → I1 st (u * 8 + t) = row u t := by
          intro t ht
          rw [hf1 _ (by omega)]
          exact hrw u (by omega) t ht
        refine j_iload C dX10_piles_7 rfl 9 rfl ?_
        refine j_iload_n C dX10_piles_9 rfl 10 rfl ?_
        refine n_icmp_ge C 51 13 dX10_piles_10 (by decide) rfl (by omega) (by omega) (fun c_10 => ?_) (fun c_10 => ?_)
        · exact absurd c_10 (by omega)
        · refine j_iload C dX10_piles_13 rfl 15 rfl ?_
          refine j_iload_n C dX10_piles_15 rfl 16 rfl ?_
          refine j_ci C (cs_X10_34 C (ct_X0_level (h - 1) (by omega) (by omega) (by omega)) rfl (by omega) (by omega) (by omega) rfl (Nat.le_of_ble_eq_true rfl) dX10_piles_16) 19 rfl ?_
          rintro _ _ ⟨rfl, rfl⟩
          rw [← he]
          refine j_istore C dX10_piles_19 (Nat.le_of_ble_eq_true rfl) (by rw [hnL]; decide) rfl 21 rfl ?_
          refine j_aload_n C dX10_piles_21 rfl 22 rfl ?_
          refine j_iload C dX10_piles_22 rfl 24 rfl ?_
          refine j_aload_n C dX10_piles_24 rfl 25 rfl ?_
          refine gf_X10_24_12 C hk hs dX10_piles_25 28 rfl ?_
          refine j_iload C dX10_piles_28 rfl 30 rfl ?_
          refine j_bipush (v := nI 8) C dX10_piles_30 (by decide) 32 rfl ?_
          refine n_imul C dX10_piles_32 33 rfl ?_
          refine j_cv C (cs_X10_38 C (ct_X7_add (I := I1) (p := p1) (e := e) (x := st) (at_ := u * 8) (h - 1) (by omega) hG hg1 (by omega) (by omega) hst (by omega) hb) hG.p0 rfl (by omega) (by omega) (by omega) rfl (Nat.le_of_ble_eq_true rfl) dX10_piles_33) 36 rfl ?_
          rintro _ ⟨I2, rfl, hf2, hg2⟩
          refine j_iload C dX10_piles_36 rfl 38 rfl ?_
          refine j_iconst (v := nI 1) C dX10_piles_38 (by decide) 39 rfl ?_
          refine j_iload C dX10_piles_39 rfl 41 rfl ?_
          refine n_ishl C dX10_piles_41 (by omega) (by omega) 42 rfl ?_
          refine n_iadd C dX10_piles_42 43 rfl ?_
          rw [Nat.one_mul]
          refine j_istore C dX10_piles_43 (Nat.le_of_ble_eq_true rfl) (by rw [hnL]; decide) rfl 45 rfl ?_
          refine n_iinc C dX10_piles_45 rfl (by rw [hnL]; decide) rfl 48 rfl ?_
          refine j_goto (tgt := 7) C dX10_piles_48 (by decide) ?_
          rw [hs1, gl_lay_congr hrow] at hg2
          refine ih (at_ + 2 ^ e) (u + 1) (gl_lay at_ e (row u) p1) I2 _ (by omega) (by omega) hg2 (by rw [gl_sz_lay, hs1, Nat.add_comm]) ?_ (hf1.tr hf2) ?_ (by omega)
          · rw [← hs1]
            exact gl_inc_lay hi1 (by rw [hs1]; exact hv.1)
          · rw [← htg, gl_ls_s hlt, ← he]
      · have e0 : at_ = b := by omega
        subst e0
        rw [gl_bls_e, List.length_nil] at hu
        refine j_iload C dX10_piles_7 rfl 9 rfl ?_
        refine j_iload_n C dX10_piles_9 rfl 10 rfl ?_
        refine n_icmp_ge C 51 13 dX10_piles_10 (by decide) rfl (by omega) (by omega) (fun c_10 => ?_) (fun c_10 => ?_)
        · refine j_iload C dX10_piles_51 rfl 53 rfl ?_
          exact j_iret C hQ ⟨by rw [← hu, Nat.add_zero], _, rfl, hf1, by rw [← htg, gl_ls_end]; exact hg1⟩ (by omega) (by omega) dX10_piles_53
        · exact absurd c_10 (by omega)
  refine j_iload C dX10_piles_0 rfl 2 rfl ?_
  refine j_istore C dX10_piles_2 (Nat.le_of_ble_eq_true rfl) (by rw [hnL]; decide) rfl 4 rfl ?_
  refine j_iload_n C dX10_piles_4 rfl 5 rfl ?_
  refine j_istore C dX10_piles_5 (Nat.le_of_ble_eq_true rfl) (by rw [hnL]; decide) rfl 7 rfl ?_
  exact loop (b - a) a fr p0 I none hab (Nat.le_refl _) hgp hsz hin gl_fr.rf rfl rfl
