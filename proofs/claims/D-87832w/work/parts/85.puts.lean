/-! MODULE GlassLog, proofs shown: writes, puts, spans (by gen85.py) -/
set_option maxRecDepth 100000
theorem gl_cpy_off {a b r : Nat → Int32} {sp dp : Nat} (h : ∀ t, t < 8 → a (sp + t) = r t) : va_cpy a b sp dp 8 = va_cpy r b 0 dp 8 := by
  funext k
  by_cases hk : dp ≤ k ∧ k < dp + 8
  · rw [pk_cpy_in hk.1 hk.2, pk_cpy_in hk.1 hk.2, h _ (by omega), Nat.zero_add]
  · rw [pk_cpy_out (by omega), pk_cpy_out (by omega)]
theorem gl_dn_self {α : Type} {lf : α → Nat → Int32} {bt : Nat → α → Bool} {kb : Nat → Bool} {x : α} : ∀ (f d : Nat) (l : List α), (∀ e, d ≤ e → e < d + f → bt e x = kb e) → x ∈ l → x ∈ (gl_dn lf bt kb f d l).2
  | 0, d, l, _, h => h
  | f + 1, d, l, hb, h => by
    unfold gl_dn
    by_cases h1 : l.length ≤ 1
    · rw [if_pos h1]; exact h
    · rw [if_neg h1]
      by_cases h2 : kb d = true
      · rw [if_pos h2]
        exact gl_dn_self f (d + 1) _ (fun e q1 q2 => hb e (by omega) (by omega)) (List.mem_filter.mpr ⟨h, by rw [hb d (Nat.le_refl _) (by omega)]; exact h2⟩)
      · rw [if_neg h2]
        exact gl_dn_self f (d + 1) _ (fun e q1 q2 => hb e (by omega) (by omega)) (List.mem_filter.mpr ⟨h, by rw [hb d (Nat.le_refl _) (by omega)]; simp [h2]⟩)
/-- slot s holds a new proof -/
def gl_np (s N N' : Nat) (sh sh' : Nat → Nat × Nat) (I I' : Nat → Nat → Int32) (L L' : Nat → Nat → Int64) (B B' : Nat → Nat → Bool) (R R' : Nat → Nat → Option Nat) (ci : Nat) (v : Nat → Int32) (rs : List (Nat → Int32)) (m : Nat) (ks : Nat → Int32) (vs : Nat → Int64) : Prop := N ≤ N' ∧ (∀ c, c < N → sh' c = sh c ∧ L' c = L c ∧ B' c = B c ∧ (c ≠ 1 + 121 + s → R' c = R c) ∧ (c < 690 ∨ 707 ≤ c → I' c = I c)) ∧ ∃ p st kl vl, (N ≤ p ∧ p < N' ∧ N ≤ st ∧ st < N' ∧ ((ci = 10 ∨ ci = 11) → N ≤ kl ∧ kl < N' ∧ N ≤ vl ∧ vl < N')) ∧ R' (1 + 121 + s) 0 = some p ∧ gl_pf (N', sh') I' L' R' p st kl vl ci v (rs.length * 8) (I' st) m ks vs ∧ ∀ i (h : i < rs.length), ∀ j, j < 8 → I' st (i * 8 + j) = rs[i] j
set_option maxHeartbeats 4000000 in
set_option maxRecDepth 100000 in
theorem ct_X0_writes {l : Launch} {δ : gl_Del} {Λ : gl_Lay} {I : Nat → Nat → Int32} {L : Nat → Nat → Int64} {B : Nat → Nat → Bool} {R : Nat → Nat → Option Nat} {K : Nat → Int32} {V : Nat → Int64} {lo n a b fr : Nat} (h : Nat) (hh : 2 ≤ h) (hG : gl_GL Λ R) (hL : gl_LL Λ R lo) (hl : lo + 19 ≤ 690 ∨ 707 ≤ lo) (hsm : gl_sm I lo K V n) (hbn : b ≤ n) (hn4 : n ≤ 400) (hab : a ≤ b) (hfr : fr + (gl_bls b (b - a) a).length ≤ 300) : gl_Ct l δ yX0_writes (ws_ yX0_writes cX0_writes 8 ((some FieldType.int))) (gl_rm h 0 0) 0 0 [.ref 0, .ref lo, .int (nI a), .int (nI b), .int (nI fr)] (Λ, I, L, B, R) (gl_Qi fun r S => r = nI (fr + (gl_bls b (b - a) a).length) ∧ ∃ I', S = (Λ, I', L, B, R) ∧ (∀ c, c ≠ 705 → I' c = I c) ∧ I' 705 = gl_wrs 0 (gl_rws K V a b) fr (I 705)) := by
  refine gl_of (by decide) (Nat.le_of_ble_eq_true rfl) rfl ?_
  intro κ C hQ hlκ hδκ hnL hini
  change gl_Cx κ RX0 _ _ _ at C
  have loop : ∀ (m at_ u : Nat) (I1 : Nat → Nat → Int32) (x7 : Option Value), at_ ≤ b → b - at_ ≤ m → (∀ c, c ≠ 705 → I1 c = I c) → gl_wrs 0 ((gl_bls b m at_).map fun q => gl_bs K V q.2 q.1) u (I1 705) = gl_wrs 0 (gl_rws K V a b) fr (I 705) → u + (gl_bls b m at_).length = fr + (gl_bls b (b - a) a).length → gl_J κ 0 0 (Λ, I1, L, B, R) 7 [some (.ref 0), some (.ref lo), some (.int (nI a)), some (.int (nI b)), some (.int (nI fr)), some (.int (nI u)), some (.int (nI at_)), x7] [] := by
    intro m
    induction m with
    | zero =>
      intro at_ u I1 x7 hat hm hF htg hu
      have e0 : at_ = b := by omega
      subst e0
      have hu : u + 0 = _ := hu
      refine j_iload C dX0_writes_7 rfl 9 rfl ?_
      refine j_iload_n C dX0_writes_9 rfl 10 rfl ?_
      refine n_icmp_ge C 65 13 dX0_writes_10 (by decide) rfl (by omega) (by omega) (fun c_10 => ?_) (fun c_10 => ?_)
      · refine j_iload C dX0_writes_65 rfl 67 rfl ?_
        exact j_iret C hQ ⟨by rw [← hu, Nat.add_zero], _, rfl, hF, htg⟩ (by omega) (by omega) dX0_writes_67
      · exact absurd c_10 (by omega)
    | succ m ih =>
      intro at_ u I1 x7 hat hm hF htg hu
      rcases Nat.lt_or_ge at_ b with hlt | hge
      · obtain ⟨e, he⟩ : ∃ e, e = gl_lv at_ b := ⟨_, rfl⟩
        have hv : at_ % 2 ^ e = 0 ∧ at_ + 2 ^ e ≤ b := by rw [he]; exact gl_lv_ok hlt
        have he9 : e ≤ 9 := by rw [he]; exact gl_lv_le
        have h0e : 0 < 2 ^ e := Nat.two_pow_pos e
        have hd1 : at_ / 2 ^ e * 2 ^ e = at_ := gl_dm.mpr hv.1
        have hd2 : at_ / 2 ^ e + 1 ≤ 400 / 2 ^ e := (Nat.le_div_iff_mul_le h0e).mpr (by rw [Nat.add_mul, hd1, Nat.one_mul]; omega)
        have hd3 : 400 / 2 ^ e ≤ 400 := Nat.div_le_self _ _
        have hu2 := hu
        rw [gl_bls_s hlt, ← he, List.length_cons] at hu2
        have hrow : ∀ t, t < 8 → I1 (lo + 9 + e) (at_ / 2 ^ e * 8 + t) = gl_bs K V e at_ t := by
          intro t ht
          rw [hF _ (by omega), hsm e (at_ / 2 ^ e) (by rw [Nat.add_mul, hd1, Nat.one_mul]; omega) t ht, hd1]
        refine j_iload C dX0_writes_7 rfl 9 rfl ?_
        refine j_iload_n C dX0_writes_9 rfl 10 rfl ?_
        refine n_icmp_ge C 65 13 dX0_writes_10 (by decide) rfl (by omega) (by omega) (fun c_10 => ?_) (fun c_10 => ?_)
        · exact absurd c_10 (by omega)
        · refine j_iload C dX0_writes_13 rfl 15 rfl ?_
          refine j_iload_n C dX0_writes_15 rfl 16 rfl ?_
          refine j_ci C (cs_X0_161 C (ct_X0_level (h - 1) (by omega) (by omega) (by omega)) rfl (by omega) (by omega) (by omega) rfl (Nat.le_of_ble_eq_true rfl) dX0_writes_16) 19 rfl ?_
          rintro _ _ ⟨rfl, rfl⟩
          rw [← he]
          refine j_istore C dX0_writes_19 (Nat.le_of_ble_eq_true rfl) (by rw [hnL]; decide) rfl 21 rfl ?_
          refine j_aload_n C dX0_writes_21 rfl 22 rfl ?_
          refine gf_X0_164 C hL.o hL.r7 dX0_writes_22 25 rfl ?_
          refine j_iload C dX0_writes_25 rfl 27 rfl ?_
          refine j_aald C (by decide) hL.k8 (by omega) (by decide) dX0_writes_27 28 rfl ?_
          rw [hL.rs e (by omega)]
          change gl_J _ _ _ _ _ _ (Value.ref _ :: _)
          refine j_iload C dX0_writes_28 rfl 30 rfl ?_
          refine j_iload C dX0_writes_30 rfl 32 rfl ?_
          refine n_ishr C dX0_writes_32 (by omega) (by omega) 33 rfl ?_
          refine j_bipush (v := nI 8) C dX0_writes_33 (by decide) 35 rfl ?_
          refine n_imul C dX0_writes_35 36 rfl ?_
          refine j_aload_n C dX0_writes_36 rfl 37 rfl ?_
          refine gf_X0_46 C hG.o hG.r5 dX0_writes_37 40 rfl ?_
          refine j_iload C dX0_writes_40 rfl 42 rfl ?_
          refine j_bipush (v := nI 8) C dX0_writes_42 (by decide) 44 rfl ?_
          refine n_imul C dX0_writes_44 45 rfl ?_
          refine j_bipush (v := nI 8) C dX0_writes_45 (by decide) 47 rfl ?_
          refine j_copyI C q644 (hL.ks e (by omega)) hG.sc (by omega) (by omega) (by omega) (by decide) (by omega) (Nat.le_of_ble_eq_true rfl) dX0_writes_47 50 rfl ?_
          refine j_iload C dX0_writes_50 rfl 52 rfl ?_
          refine j_iconst (v := nI 1) C dX0_writes_52 (by decide) 53 rfl ?_
          refine j_iload C dX0_writes_53 rfl 55 rfl ?_
          refine n_ishl C dX0_writes_55 (by omega) (by omega) 56 rfl ?_
          refine n_iadd C dX0_writes_56 57 rfl ?_
          rw [Nat.one_mul]
          refine j_istore C dX0_writes_57 (Nat.le_of_ble_eq_true rfl) (by rw [hnL]; decide) rfl 59 rfl ?_
          refine n_iinc C dX0_writes_59 rfl (by rw [hnL]; decide) rfl 62 rfl ?_
          refine j_goto (tgt := 7) C dX0_writes_62 (by decide) ?_
          rw [gl_cpy_off hrow]
          refine ih (at_ + 2 ^ e) (u + 1) _ _ (by omega) (by omega) (fun c hc => ?_) ?_ (by omega)
          · rw [gl_up_ne hc]; exact hF c hc
          · rw [← htg, gl_bls_s hlt, ← he, gl_up_eq, List.map_cons, gl_wrs]
            show _ = gl_wrs 0 _ (u + 1) (va_cpy (gl_bs K V e at_) (I1 705) 0 (0 + 8 * u) 8)
            rw [show 0 + 8 * u = u * 8 by omega]
      · have e0 : at_ = b := by omega
        subst e0
        rw [gl_bls_e, List.length_nil] at hu
        rw [gl_bls_e] at htg
        refine j_iload C dX0_writes_7 rfl 9 rfl ?_
        refine j_iload_n C dX0_writes_9 rfl 10 rfl ?_
        refine n_icmp_ge C 65 13 dX0_writes_10 (by decide) rfl (by omega) (by omega) (fun c_10 => ?_) (fun c_10 => ?_)
        · refine j_iload C dX0_writes_65 rfl 67 rfl ?_
          exact j_iret C hQ ⟨by rw [← hu, Nat.add_zero], _, rfl, hF, htg⟩ (by omega) (by omega) dX0_writes_67
        · exact absurd c_10 (by omega)
  refine j_iload C dX0_writes_0 rfl 2 rfl ?_
  refine j_istore C dX0_writes_2 (Nat.le_of_ble_eq_true rfl) (by rw [hnL]; decide) rfl 4 rfl ?_
  refine j_iload_n C dX0_writes_4 rfl 5 rfl ?_
  refine j_istore C dX0_writes_5 (Nat.le_of_ble_eq_true rfl) (by rw [hnL]; decide) rfl 7 rfl ?_
  exact loop (b - a) a fr I none hab (Nat.le_refl _) (fun _ _ => rfl) rfl rfl
set_option maxHeartbeats 4000000 in
set_option maxRecDepth 100000 in
theorem ct_X0_puts_10 {l : Launch} {δ : gl_Del} {N : Nat} {sh : Nat → Nat × Nat} {I : Nat → Nat → Int32} {L : Nat → Nat → Int64} {B : Nat → Nat → Bool} {R : Nat → Nat → Option Nat} {s p mn : Nat} {x0 x1 x2 : Int32} (h : Nat) (hh : 3 ≤ h) (hG : gl_GL (N, sh) R) (hN : 707 ≤ N) (hs : s < 16) (hk : sh p = (18, 0)) (hpN : p < N) (hp7 : 707 ≤ p) (hm8 : mn * 8 ≤ 2400) : gl_Ct l δ yX0_puts (ws_ yX0_puts cX0_puts 7 ((some FieldType.int))) (gl_rm h 1 (mn * 8)) 1 (mn * 8) [.ref 0, .int (nI s), .ref p, .int x0, .int x1, .int x2, .int (nI mn)] ((N, sh), I, L, B, R) (gl_Qi fun r S => r = nI mn ∧ ∃ q : Nat → Int32, (∀ t, t < mn * 8 → q t = I 705 t) ∧ S = ((N + 1, va_up sh N (0, mn * 8)), va_up (gl_u2 (gl_u2 (gl_u2 (gl_u2 I p 0 x0) p 1 x1) p 2 x2) p 3 (nI mn)) N q, va_up L N (fun _ => 0), va_up B N (fun _ => false), gl_u2 (gl_u2 (va_up R N (fun _ => none)) p 4 (some N)) (1 + 121 + s) 0 (some p))) := by
  refine gl_of (by decide) (Nat.le_of_ble_eq_true rfl) rfl ?_
  intro κ C hQ hlκ hδκ hnL hini
  change gl_Cx κ RX0 _ _ _ at C
  refine j_aload_n C dX0_puts_0 rfl 1 rfl ?_
  refine j_iload_n C dX0_puts_1 rfl 2 rfl ?_
  refine pf_X0_174_10 C hk dX0_puts_2 5 rfl ?_
  refine j_aload_n C dX0_puts_5 rfl 6 rfl ?_
  refine j_iload C dX0_puts_6 rfl 8 rfl ?_
  refine pf_X0_177_10 C hk dX0_puts_8 11 rfl ?_
  refine j_aload_n C dX0_puts_11 rfl 12 rfl ?_
  refine j_iload C dX0_puts_12 rfl 14 rfl ?_
  refine pf_X0_180_10 C hk dX0_puts_14 17 rfl ?_
  refine j_aload_n C dX0_puts_17 rfl 18 rfl ?_
  refine j_iload C dX0_puts_18 rfl 20 rfl ?_
  refine pf_X0_183_10 C hk dX0_puts_20 23 rfl ?_
  refine j_aload_n C dX0_puts_23 rfl 24 rfl ?_
  refine j_aload_n C dX0_puts_24 rfl 25 rfl ?_
  refine gf_X0_46 C hG.o hG.r5 dX0_puts_25 28 rfl ?_
  refine j_iload C dX0_puts_28 rfl 30 rfl ?_
  refine j_bipush (v := nI 8) C dX0_puts_30 (by decide) 32 rfl ?_
  refine n_imul C dX0_puts_32 33 rfl ?_
  refine j_cr C (cs_X0_184 C (ct_J1_copyOfI (c := 705) (n := mn * 8) (len := 2400) (h - 1) (by omega) hG.sc (by omega) hm8 (by decide)) rfl (by omega) (by omega) (by omega) rfl (Nat.le_of_ble_eq_true rfl) dX0_puts_33) 36 rfl ?_
  rintro _ _ ⟨rfl, q, hq, rfl⟩
  refine pf_X0_190_10 C (x := 0) (by show va_up sh N _ p = _; rw [gl_up_ne (by omega)]; exact hk) dX0_puts_36 39 rfl ?_
  refine j_aload_n C dX0_puts_39 rfl 40 rfl ?_
  refine gf_X0_12 C (x := 0) (by show va_up sh N _ 0 = _; rw [gl_up_ne (by omega)]; exact hG.o) (c' := 1) (by rw [gl_u2_ne (show 0 ≠ p by omega), gl_up_ne (by omega)]; exact hG.r0) dX0_puts_40 43 rfl ?_
  refine gf_X0_193 C (x := 0) (by show va_up sh N _ 1 = _; rw [gl_up_ne (by omega)]; exact hG.hs.o) (c' := 1 + 2) (by rw [gl_u2_ne (show 1 ≠ p by omega), gl_up_ne (by omega)]; exact hG.hs.r1) dX0_puts_43 46 rfl ?_
  refine j_iload_n C dX0_puts_46 rfl 47 rfl ?_
  refine j_aald C (by decide) (show va_up sh N (0, mn * 8) (1 + 2) = (4, 16) by rw [gl_up_ne (by omega)]; exact hG.hs.k2) (by omega) (by decide) dX0_puts_47 48 rfl ?_
  rw [(show gl_u2 (va_up R N (fun _ => none)) p 4 (some N) (1 + 2) s = some (1 + 121 + s) by rw [gl_u2_ne (by omega), gl_up_ne (by omega)]; exact hG.hs.sr s hs)]
  change gl_J _ _ _ _ _ _ (Value.ref _ :: _)
  refine j_aload_n C dX0_puts_48 rfl 49 rfl ?_
  refine pf_X0_197 C (x := 0) (by show va_up sh N _ (1 + 121 + s) = _; rw [gl_up_ne (by omega)]; exact hG.hs.sl s hs) dX0_puts_49 52 rfl ?_
  refine j_iload C dX0_puts_52 rfl 54 rfl ?_
  exact j_iret C hQ ⟨rfl, q, fun t ht => by rw [hq t ht]; simp (disch := omega) only [gl_u2_eq, gl_u2_ne, gl_up_eq, gl_up_ne], rfl⟩ (by omega) (by omega) dX0_puts_54
set_option maxHeartbeats 4000000 in
set_option maxRecDepth 100000 in
theorem ct_X0_puts_11 {l : Launch} {δ : gl_Del} {N : Nat} {sh : Nat → Nat × Nat} {I : Nat → Nat → Int32} {L : Nat → Nat → Int64} {B : Nat → Nat → Bool} {R : Nat → Nat → Option Nat} {s p mn : Nat} {x0 x1 x2 : Int32} (h : Nat) (hh : 3 ≤ h) (hG : gl_GL (N, sh) R) (hN : 707 ≤ N) (hs : s < 16) (hk : sh p = (19, 0)) (hpN : p < N) (hp7 : 707 ≤ p) (hm8 : mn * 8 ≤ 2400) : gl_Ct l δ yX0_puts (ws_ yX0_puts cX0_puts 7 ((some FieldType.int))) (gl_rm h 1 (mn * 8)) 1 (mn * 8) [.ref 0, .int (nI s), .ref p, .int x0, .int x1, .int x2, .int (nI mn)] ((N, sh), I, L, B, R) (gl_Qi fun r S => r = nI mn ∧ ∃ q : Nat → Int32, (∀ t, t < mn * 8 → q t = I 705 t) ∧ S = ((N + 1, va_up sh N (0, mn * 8)), va_up (gl_u2 (gl_u2 (gl_u2 (gl_u2 I p 0 x0) p 1 x1) p 2 x2) p 3 (nI mn)) N q, va_up L N (fun _ => 0), va_up B N (fun _ => false), gl_u2 (gl_u2 (va_up R N (fun _ => none)) p 4 (some N)) (1 + 121 + s) 0 (some p))) := by
  refine gl_of (by decide) (Nat.le_of_ble_eq_true rfl) rfl ?_
  intro κ C hQ hlκ hδκ hnL hini
  change gl_Cx κ RX0 _ _ _ at C
  refine j_aload_n C dX0_puts_0 rfl 1 rfl ?_
  refine j_iload_n C dX0_puts_1 rfl 2 rfl ?_
  refine pf_X0_174_11 C hk dX0_puts_2 5 rfl ?_
  refine j_aload_n C dX0_puts_5 rfl 6 rfl ?_
  refine j_iload C dX0_puts_6 rfl 8 rfl ?_
  refine pf_X0_177_11 C hk dX0_puts_8 11 rfl ?_
  refine j_aload_n C dX0_puts_11 rfl 12 rfl ?_
  refine j_iload C dX0_puts_12 rfl 14 rfl ?_
  refine pf_X0_180_11 C hk dX0_puts_14 17 rfl ?_
  refine j_aload_n C dX0_puts_17 rfl 18 rfl ?_
  refine j_iload C dX0_puts_18 rfl 20 rfl ?_
  refine pf_X0_183_11 C hk dX0_puts_20 23 rfl ?_
  refine j_aload_n C dX0_puts_23 rfl 24 rfl ?_
  refine j_aload_n C dX0_puts_24 rfl 25 rfl ?_
  refine gf_X0_46 C hG.o hG.r5 dX0_puts_25 28 rfl ?_
  refine j_iload C dX0_puts_28 rfl 30 rfl ?_
  refine j_bipush (v := nI 8) C dX0_puts_30 (by decide) 32 rfl ?_
  refine n_imul C dX0_puts_32 33 rfl ?_
  refine j_cr C (cs_X0_184 C (ct_J1_copyOfI (c := 705) (n := mn * 8) (len := 2400) (h - 1) (by omega) hG.sc (by omega) hm8 (by decide)) rfl (by omega) (by omega) (by omega) rfl (Nat.le_of_ble_eq_true rfl) dX0_puts_33) 36 rfl ?_
  rintro _ _ ⟨rfl, q, hq, rfl⟩
  refine pf_X0_190_11 C (x := 0) (by show va_up sh N _ p = _; rw [gl_up_ne (by omega)]; exact hk) dX0_puts_36 39 rfl ?_
  refine j_aload_n C dX0_puts_39 rfl 40 rfl ?_
  refine gf_X0_12 C (x := 0) (by show va_up sh N _ 0 = _; rw [gl_up_ne (by omega)]; exact hG.o) (c' := 1) (by rw [gl_u2_ne (show 0 ≠ p by omega), gl_up_ne (by omega)]; exact hG.r0) dX0_puts_40 43 rfl ?_
  refine gf_X0_193 C (x := 0) (by show va_up sh N _ 1 = _; rw [gl_up_ne (by omega)]; exact hG.hs.o) (c' := 1 + 2) (by rw [gl_u2_ne (show 1 ≠ p by omega), gl_up_ne (by omega)]; exact hG.hs.r1) dX0_puts_43 46 rfl ?_
  refine j_iload_n C dX0_puts_46 rfl 47 rfl ?_
  refine j_aald C (by decide) (show va_up sh N (0, mn * 8) (1 + 2) = (4, 16) by rw [gl_up_ne (by omega)]; exact hG.hs.k2) (by omega) (by decide) dX0_puts_47 48 rfl ?_
  rw [(show gl_u2 (va_up R N (fun _ => none)) p 4 (some N) (1 + 2) s = some (1 + 121 + s) by rw [gl_u2_ne (by omega), gl_up_ne (by omega)]; exact hG.hs.sr s hs)]
  change gl_J _ _ _ _ _ _ (Value.ref _ :: _)
  refine j_aload_n C dX0_puts_48 rfl 49 rfl ?_
  refine pf_X0_197 C (x := 0) (by show va_up sh N _ (1 + 121 + s) = _; rw [gl_up_ne (by omega)]; exact hG.hs.sl s hs) dX0_puts_49 52 rfl ?_
  refine j_iload C dX0_puts_52 rfl 54 rfl ?_
  exact j_iret C hQ ⟨rfl, q, fun t ht => by rw [hq t ht]; simp (disch := omega) only [gl_u2_eq, gl_u2_ne, gl_up_eq, gl_up_ne], rfl⟩ (by omega) (by omega) dX0_puts_54
set_option maxHeartbeats 4000000 in
set_option maxRecDepth 100000 in
theorem ct_X0_puts_12 {l : Launch} {δ : gl_Del} {N : Nat} {sh : Nat → Nat × Nat} {I : Nat → Nat → Int32} {L : Nat → Nat → Int64} {B : Nat → Nat → Bool} {R : Nat → Nat → Option Nat} {s p mn : Nat} {x0 x1 x2 : Int32} (h : Nat) (hh : 3 ≤ h) (hG : gl_GL (N, sh) R) (hN : 707 ≤ N) (hs : s < 16) (hk : sh p = (20, 0)) (hpN : p < N) (hp7 : 707 ≤ p) (hm8 : mn * 8 ≤ 2400) : gl_Ct l δ yX0_puts (ws_ yX0_puts cX0_puts 7 ((some FieldType.int))) (gl_rm h 1 (mn * 8)) 1 (mn * 8) [.ref 0, .int (nI s), .ref p, .int x0, .int x1, .int x2, .int (nI mn)] ((N, sh), I, L, B, R) (gl_Qi fun r S => r = nI mn ∧ ∃ q : Nat → Int32, (∀ t, t < mn * 8 → q t = I 705 t) ∧ S = ((N + 1, va_up sh N (0, mn * 8)), va_up (gl_u2 (gl_u2 (gl_u2 (gl_u2 I p 0 x0) p 1 x1) p 2 x2) p 3 (nI mn)) N q, va_up L N (fun _ => 0), va_up B N (fun _ => false), gl_u2 (gl_u2 (va_up R N (fun _ => none)) p 4 (some N)) (1 + 121 + s) 0 (some p))) := by
  refine gl_of (by decide) (Nat.le_of_ble_eq_true rfl) rfl ?_
  intro κ C hQ hlκ hδκ hnL hini
  change gl_Cx κ RX0 _ _ _ at C
  refine j_aload_n C dX0_puts_0 rfl 1 rfl ?_
  refine j_iload_n C dX0_puts_1 rfl 2 rfl ?_
  refine pf_X0_174_12 C hk dX0_puts_2 5 rfl ?_
  refine j_aload_n C dX0_puts_5 rfl 6 rfl ?_
  refine j_iload C dX0_puts_6 rfl 8 rfl ?_
  refine pf_X0_177_12 C hk dX0_puts_8 11 rfl ?_
  refine j_aload_n C dX0_puts_11 rfl 12 rfl ?_
  refine j_iload C dX0_puts_12 rfl 14 rfl ?_
  refine pf_X0_180_12 C hk dX0_puts_14 17 rfl ?_
  refine j_aload_n C dX0_puts_17 rfl 18 rfl ?_
  refine j_iload C dX0_puts_18 rfl 20 rfl ?_
  refine pf_X0_183_12 C hk dX0_puts_20 23 rfl ?_
  refine j_aload_n C dX0_puts_23 rfl 24 rfl ?_
  refine j_aload_n C dX0_puts_24 rfl 25 rfl ?_
  refine gf_X0_46 C hG.o hG.r5 dX0_puts_25 28 rfl ?_
  refine j_iload C dX0_puts_28 rfl 30 rfl ?_
  refine j_bipush (v := nI 8) C dX0_puts_30 (by decide) 32 rfl ?_
  refine n_imul C dX0_puts_32 33 rfl ?_
  refine j_cr C (cs_X0_184 C (ct_J1_copyOfI (c := 705) (n := mn * 8) (len := 2400) (h - 1) (by omega) hG.sc (by omega) hm8 (by decide)) rfl (by omega) (by omega) (by omega) rfl (Nat.le_of_ble_eq_true rfl) dX0_puts_33) 36 rfl ?_
  rintro _ _ ⟨rfl, q, hq, rfl⟩
  refine pf_X0_190_12 C (x := 0) (by show va_up sh N _ p = _; rw [gl_up_ne (by omega)]; exact hk) dX0_puts_36 39 rfl ?_
  refine j_aload_n C dX0_puts_39 rfl 40 rfl ?_
  refine gf_X0_12 C (x := 0) (by show va_up sh N _ 0 = _; rw [gl_up_ne (by omega)]; exact hG.o) (c' := 1) (by rw [gl_u2_ne (show 0 ≠ p by omega), gl_up_ne (by omega)]; exact hG.r0) dX0_puts_40 43 rfl ?_
  refine gf_X0_193 C (x := 0) (by show va_up sh N _ 1 = _; rw [gl_up_ne (by omega)]; exact hG.hs.o) (c' := 1 + 2) (by rw [gl_u2_ne (show 1 ≠ p by omega), gl_up_ne (by omega)]; exact hG.hs.r1) dX0_puts_43 46 rfl ?_
  refine j_iload_n C dX0_puts_46 rfl 47 rfl ?_
  refine j_aald C (by decide) (show va_up sh N (0, mn * 8) (1 + 2) = (4, 16) by rw [gl_up_ne (by omega)]; exact hG.hs.k2) (by omega) (by decide) dX0_puts_47 48 rfl ?_
  rw [(show gl_u2 (va_up R N (fun _ => none)) p 4 (some N) (1 + 2) s = some (1 + 121 + s) by rw [gl_u2_ne (by omega), gl_up_ne (by omega)]; exact hG.hs.sr s hs)]
  change gl_J _ _ _ _ _ _ (Value.ref _ :: _)
  refine j_aload_n C dX0_puts_48 rfl 49 rfl ?_
  refine pf_X0_197 C (x := 0) (by show va_up sh N _ (1 + 121 + s) = _; rw [gl_up_ne (by omega)]; exact hG.hs.sl s hs) dX0_puts_49 52 rfl ?_
  refine j_iload C dX0_puts_52 rfl 54 rfl ?_
  exact j_iret C hQ ⟨rfl, q, fun t ht => by rw [hq t ht]; simp (disch := omega) only [gl_u2_eq, gl_u2_ne, gl_up_eq, gl_up_ne], rfl⟩ (by omega) (by omega) dX0_puts_54
set_option maxHeartbeats 4000000 in
set_option maxRecDepth 100000 in
theorem ct_X0_puts_13 {l : Launch} {δ : gl_Del} {N : Nat} {sh : Nat → Nat × Nat} {I : Nat → Nat → Int32} {L : Nat → Nat → Int64} {B : Nat → Nat → Bool} {R : Nat → Nat → Option Nat} {s p mn : Nat} {x0 x1 x2 : Int32} (h : Nat) (hh : 3 ≤ h) (hG : gl_GL (N, sh) R) (hN : 707 ≤ N) (hs : s < 16) (hk : sh p = (21, 0)) (hpN : p < N) (hp7 : 707 ≤ p) (hm8 : mn * 8 ≤ 2400) : gl_Ct l δ yX0_puts (ws_ yX0_puts cX0_puts 7 ((some FieldType.int))) (gl_rm h 1 (mn * 8)) 1 (mn * 8) [.ref 0, .int (nI s), .ref p, .int x0, .int x1, .int x2, .int (nI mn)] ((N, sh), I, L, B, R) (gl_Qi fun r S => r = nI mn ∧ ∃ q : Nat → Int32, (∀ t, t < mn * 8 → q t = I 705 t) ∧ S = ((N + 1, va_up sh N (0, mn * 8)), va_up (gl_u2 (gl_u2 (gl_u2 (gl_u2 I p 0 x0) p 1 x1) p 2 x2) p 3 (nI mn)) N q, va_up L N (fun _ => 0), va_up B N (fun _ => false), gl_u2 (gl_u2 (va_up R N (fun _ => none)) p 4 (some N)) (1 + 121 + s) 0 (some p))) := by
  refine gl_of (by decide) (Nat.le_of_ble_eq_true rfl) rfl ?_
  intro κ C hQ hlκ hδκ hnL hini
  change gl_Cx κ RX0 _ _ _ at C
  refine j_aload_n C dX0_puts_0 rfl 1 rfl ?_
  refine j_iload_n C dX0_puts_1 rfl 2 rfl ?_
  refine pf_X0_174_13 C hk dX0_puts_2 5 rfl ?_
  refine j_aload_n C dX0_puts_5 rfl 6 rfl ?_
  refine j_iload C dX0_puts_6 rfl 8 rfl ?_
  refine pf_X0_177_13 C hk dX0_puts_8 11 rfl ?_
  refine j_aload_n C dX0_puts_11 rfl 12 rfl ?_
  refine j_iload C dX0_puts_12 rfl 14 rfl ?_
  refine pf_X0_180_13 C hk dX0_puts_14 17 rfl ?_
  refine j_aload_n C dX0_puts_17 rfl 18 rfl ?_
  refine j_iload C dX0_puts_18 rfl 20 rfl ?_
  refine pf_X0_183_13 C hk dX0_puts_20 23 rfl ?_
  refine j_aload_n C dX0_puts_23 rfl 24 rfl ?_
  refine j_aload_n C dX0_puts_24 rfl 25 rfl ?_
  refine gf_X0_46 C hG.o hG.r5 dX0_puts_25 28 rfl ?_
  refine j_iload C dX0_puts_28 rfl 30 rfl ?_
  refine j_bipush (v := nI 8) C dX0_puts_30 (by decide) 32 rfl ?_
  refine n_imul C dX0_puts_32 33 rfl ?_
  refine j_cr C (cs_X0_184 C (ct_J1_copyOfI (c := 705) (n := mn * 8) (len := 2400) (h - 1) (by omega) hG.sc (by omega) hm8 (by decide)) rfl (by omega) (by omega) (by omega) rfl (Nat.le_of_ble_eq_true rfl) dX0_puts_33) 36 rfl ?_
  rintro _ _ ⟨rfl, q, hq, rfl⟩
  refine pf_X0_190_13 C (x := 0) (by show va_up sh N _ p = _; rw [gl_up_ne (by omega)]; exact hk) dX0_puts_36 39 rfl ?_
  refine j_aload_n C dX0_puts_39 rfl 40 rfl ?_
  refine gf_X0_12 C (x := 0) (by show va_up sh N _ 0 = _; rw [gl_up_ne (by omega)]; exact hG.o) (c' := 1) (by rw [gl_u2_ne (show 0 ≠ p by omega), gl_up_ne (by omega)]; exact hG.r0) dX0_puts_40 43 rfl ?_
  refine gf_X0_193 C (x := 0) (by show va_up sh N _ 1 = _; rw [gl_up_ne (by omega)]; exact hG.hs.o) (c' := 1 + 2) (by rw [gl_u2_ne (show 1 ≠ p by omega), gl_up_ne (by omega)]; exact hG.hs.r1) dX0_puts_43 46 rfl ?_
  refine j_iload_n C dX0_puts_46 rfl 47 rfl ?_
  refine j_aald C (by decide) (show va_up sh N (0, mn * 8) (1 + 2) = (4, 16) by rw [gl_up_ne (by omega)]; exact hG.hs.k2) (by omega) (by decide) dX0_puts_47 48 rfl ?_
  rw [(show gl_u2 (va_up R N (fun _ => none)) p 4 (some N) (1 + 2) s = some (1 + 121 + s) by rw [gl_u2_ne (by omega), gl_up_ne (by omega)]; exact hG.hs.sr s hs)]
  change gl_J _ _ _ _ _ _ (Value.ref _ :: _)
  refine j_aload_n C dX0_puts_48 rfl 49 rfl ?_
  refine pf_X0_197 C (x := 0) (by show va_up sh N _ (1 + 121 + s) = _; rw [gl_up_ne (by omega)]; exact hG.hs.sl s hs) dX0_puts_49 52 rfl ?_
  refine j_iload C dX0_puts_52 rfl 54 rfl ?_
  exact j_iret C hQ ⟨rfl, q, fun t ht => by rw [hq t ht]; simp (disch := omega) only [gl_u2_eq, gl_u2_ne, gl_up_eq, gl_up_ne], rfl⟩ (by omega) (by omega) dX0_puts_54
set_option maxHeartbeats 4000000 in
set_option maxRecDepth 100000 in
theorem ct_X0_puts_14 {l : Launch} {δ : gl_Del} {N : Nat} {sh : Nat → Nat × Nat} {I : Nat → Nat → Int32} {L : Nat → Nat → Int64} {B : Nat → Nat → Bool} {R : Nat → Nat → Option Nat} {s p mn : Nat} {x0 x1 x2 : Int32} (h : Nat) (hh : 3 ≤ h) (hG : gl_GL (N, sh) R) (hN : 707 ≤ N) (hs : s < 16) (hk : sh p = (22, 0)) (hpN : p < N) (hp7 : 707 ≤ p) (hm8 : mn * 8 ≤ 2400) : gl_Ct l δ yX0_puts (ws_ yX0_puts cX0_puts 7 ((some FieldType.int))) (gl_rm h 1 (mn * 8)) 1 (mn * 8) [.ref 0, .int (nI s), .ref p, .int x0, .int x1, .int x2, .int (nI mn)] ((N, sh), I, L, B, R) (gl_Qi fun r S => r = nI mn ∧ ∃ q : Nat → Int32, (∀ t, t < mn * 8 → q t = I 705 t) ∧ S = ((N + 1, va_up sh N (0, mn * 8)), va_up (gl_u2 (gl_u2 (gl_u2 (gl_u2 I p 0 x0) p 1 x1) p 2 x2) p 3 (nI mn)) N q, va_up L N (fun _ => 0), va_up B N (fun _ => false), gl_u2 (gl_u2 (va_up R N (fun _ => none)) p 4 (some N)) (1 + 121 + s) 0 (some p))) := by
  refine gl_of (by decide) (Nat.le_of_ble_eq_true rfl) rfl ?_
  intro κ C hQ hlκ hδκ hnL hini
  change gl_Cx κ RX0 _ _ _ at C
  refine j_aload_n C dX0_puts_0 rfl 1 rfl ?_
  refine j_iload_n C dX0_puts_1 rfl 2 rfl ?_
  refine pf_X0_174_14 C hk dX0_puts_2 5 rfl ?_
  refine j_aload_n C dX0_puts_5 rfl 6 rfl ?_
  refine j_iload C dX0_puts_6 rfl 8 rfl ?_
  refine pf_X0_177_14 C hk dX0_puts_8 11 rfl ?_
  refine j_aload_n C dX0_puts_11 rfl 12 rfl ?_
  refine j_iload C dX0_puts_12 rfl 14 rfl ?_
  refine pf_X0_180_14 C hk dX0_puts_14 17 rfl ?_
  refine j_aload_n C dX0_puts_17 rfl 18 rfl ?_
  refine j_iload C dX0_puts_18 rfl 20 rfl ?_
  refine pf_X0_183_14 C hk dX0_puts_20 23 rfl ?_
  refine j_aload_n C dX0_puts_23 rfl 24 rfl ?_
  refine j_aload_n C dX0_puts_24 rfl 25 rfl ?_
  refine gf_X0_46 C hG.o hG.r5 dX0_puts_25 28 rfl ?_
  refine j_iload C dX0_puts_28 rfl 30 rfl ?_
  refine j_bipush (v := nI 8) C dX0_puts_30 (by decide) 32 rfl ?_
  refine n_imul C dX0_puts_32 33 rfl ?_
  refine j_cr C (cs_X0_184 C (ct_J1_copyOfI (c := 705) (n := mn * 8) (len := 2400) (h - 1) (by omega) hG.sc (by omega) hm8 (by decide)) rfl (by omega) (by omega) (by omega) rfl (Nat.le_of_ble_eq_true rfl) dX0_puts_33) 36 rfl ?_
  rintro _ _ ⟨rfl, q, hq, rfl⟩
  refine pf_X0_190_14 C (x := 0) (by show va_up sh N _ p = _; rw [gl_up_ne (by omega)]; exact hk) dX0_puts_36 39 rfl ?_
  refine j_aload_n C dX0_puts_39 rfl 40 rfl ?_
  refine gf_X0_12 C (x := 0) (by show va_up sh N _ 0 = _; rw [gl_up_ne (by omega)]; exact hG.o) (c' := 1) (by rw [gl_u2_ne (show 0 ≠ p by omega), gl_up_ne (by omega)]; exact hG.r0) dX0_puts_40 43 rfl ?_
  refine gf_X0_193 C (x := 0) (by show va_up sh N _ 1 = _; rw [gl_up_ne (by omega)]; exact hG.hs.o) (c' := 1 + 2) (by rw [gl_u2_ne (show 1 ≠ p by omega), gl_up_ne (by omega)]; exact hG.hs.r1) dX0_puts_43 46 rfl ?_
  refine j_iload_n C dX0_puts_46 rfl 47 rfl ?_
  refine j_aald C (by decide) (show va_up sh N (0, mn * 8) (1 + 2) = (4, 16) by rw [gl_up_ne (by omega)]; exact hG.hs.k2) (by omega) (by decide) dX0_puts_47 48 rfl ?_
  rw [(show gl_u2 (va_up R N (fun _ => none)) p 4 (some N) (1 + 2) s = some (1 + 121 + s) by rw [gl_u2_ne (by omega), gl_up_ne (by omega)]; exact hG.hs.sr s hs)]
  change gl_J _ _ _ _ _ _ (Value.ref _ :: _)
  refine j_aload_n C dX0_puts_48 rfl 49 rfl ?_
  refine pf_X0_197 C (x := 0) (by show va_up sh N _ (1 + 121 + s) = _; rw [gl_up_ne (by omega)]; exact hG.hs.sl s hs) dX0_puts_49 52 rfl ?_
  refine j_iload C dX0_puts_52 rfl 54 rfl ?_
  exact j_iret C hQ ⟨rfl, q, fun t ht => by rw [hq t ht]; simp (disch := omega) only [gl_u2_eq, gl_u2_ne, gl_up_eq, gl_up_ne], rfl⟩ (by omega) (by omega) dX0_puts_54
