/-! MODULE GlassLog: layouts stay; maps: down (by gen71.py) -/
set_option maxRecDepth 100000
theorem gl_LL.of_eq {Λ Λ' : gl_Lay} {R R' : Nat → Nat → Option Nat} {l : Nat} (H : gl_LL Λ R l) (hs : ∀ c, l ≤ c → c < l + 19 → Λ'.2 c = Λ.2 c) (hr : ∀ c j, l ≤ c → c < l + 19 → R' c j = R c j) : gl_LL Λ' R' l := ⟨by rw [hs _ (by omega) (by omega)]; exact H.o, by rw [hs _ (by omega) (by omega)]; exact H.k1, by rw [hs _ (by omega) (by omega)]; exact H.k2, by rw [hs _ (by omega) (by omega)]; exact H.k3, by rw [hs _ (by omega) (by omega)]; exact H.k4, by rw [hs _ (by omega) (by omega)]; exact H.k5, by rw [hs _ (by omega) (by omega)]; exact H.k6, by rw [hs _ (by omega) (by omega)]; exact H.k7, by rw [hs _ (by omega) (by omega)]; exact H.k8, by rw [hr _ _ (by omega) (by omega)]; exact H.r0, by rw [hr _ _ (by omega) (by omega)]; exact H.r1, by rw [hr _ _ (by omega) (by omega)]; exact H.r2, by rw [hr _ _ (by omega) (by omega)]; exact H.r3, by rw [hr _ _ (by omega) (by omega)]; exact H.r4, by rw [hr _ _ (by omega) (by omega)]; exact H.r5, by rw [hr _ _ (by omega) (by omega)]; exact H.r6, by rw [hr _ _ (by omega) (by omega)]; exact H.r7, fun r h_ => by rw [hs _ (by omega) (by omega)]; exact H.ks r h_, fun r h_ => by rw [hr _ _ (by omega) (by omega)]; exact H.rs r h_⟩
theorem gl_DL.of_eq {Λ Λ' : gl_Lay} {R R' : Nat → Nat → Option Nat} {d : Nat} (H : gl_DL Λ R d) (hs : ∀ c, d ≤ c → c < d + 4 → Λ'.2 c = Λ.2 c) (hr : ∀ c j, d ≤ c → c < d + 4 → R' c j = R c j) : gl_DL Λ' R' d := ⟨by rw [hs _ (by omega) (by omega)]; exact H.o, by rw [hs _ (by omega) (by omega)]; exact H.k1, by rw [hs _ (by omega) (by omega)]; exact H.k2, by rw [hs _ (by omega) (by omega)]; exact H.k3, by rw [hr _ _ (by omega) (by omega)]; exact H.r0, by rw [hr _ _ (by omega) (by omega)]; exact H.r1, by rw [hr _ _ (by omega) (by omega)]; exact H.r2⟩
theorem gl_TL.of_eq {Λ Λ' : gl_Lay} {R R' : Nat → Nat → Option Nat} {w : Nat} (H : gl_TL Λ R w) (hs : ∀ c, w ≤ c → c < w + 3 → Λ'.2 c = Λ.2 c) (hr : ∀ c j, w ≤ c → c < w + 3 → R' c j = R c j) : gl_TL Λ' R' w := ⟨by rw [hs _ (by omega) (by omega)]; exact H.o, by rw [hs _ (by omega) (by omega)]; exact H.k1, by rw [hs _ (by omega) (by omega)]; exact H.k2, by rw [hr _ _ (by omega) (by omega)]; exact H.r0, by rw [hr _ _ (by omega) (by omega)]; exact H.r1⟩
theorem gl_HL.of_eq {Λ Λ' : gl_Lay} {R R' : Nat → Nat → Option Nat} {h : Nat} (H : gl_HL Λ R h) (hs : ∀ c, h ≤ c → c < h + 689 → Λ'.2 c = Λ.2 c) (hr : ∀ c j, h ≤ c → c < h + 689 → ¬ (h + 121 ≤ c ∧ c < h + 137) → R' c j = R c j) : gl_HL Λ' R' h := ⟨by rw [hs _ (by omega) (by omega)]; exact H.o, by rw [hs _ (by omega) (by omega)]; exact H.k1, by rw [hs _ (by omega) (by omega)]; exact H.k2, by rw [hs _ (by omega) (by omega)]; exact H.k3, by rw [hs _ (by omega) (by omega)]; exact H.k4, by rw [hs _ (by omega) (by omega)]; exact H.k5, by rw [hs _ (by omega) (by omega)]; exact H.k6, by rw [hr _ _ (by omega) (by omega) (by omega)]; exact H.r0, by rw [hr _ _ (by omega) (by omega) (by omega)]; exact H.r1, by rw [hr _ _ (by omega) (by omega) (by omega)]; exact H.r2, by rw [hr _ _ (by omega) (by omega) (by omega)]; exact H.r3, by rw [hr _ _ (by omega) (by omega) (by omega)]; exact H.r4, by rw [hr _ _ (by omega) (by omega) (by omega)]; exact H.r5, fun k h_ => by rw [hr _ _ (by omega) (by omega) (by omega)]; exact H.lr k h_, fun k h_ => (H.lg k h_).of_eq (fun c h1 h2 => hs c (by omega) (by omega)) (fun c j h1 h2 => hr c j (by omega) (by omega) (by omega)), fun k h_ => by rw [hr _ _ (by omega) (by omega) (by omega)]; exact H.sr k h_, fun k h_ => by rw [hs _ (by omega) (by omega)]; exact H.sl k h_, fun k h_ => by rw [hr _ _ (by omega) (by omega) (by omega)]; exact H.hr k h_, fun k h_ => (H.hd k h_).of_eq (fun c h1 h2 => hs c (by omega) (by omega)) (fun c j h1 h2 => hr c j (by omega) (by omega) (by omega)), fun k h_ => by rw [hr _ _ (by omega) (by omega) (by omega)]; exact H.br k h_, fun k h_ => (H.bd k h_).of_eq (fun c h1 h2 => hs c (by omega) (by omega)) (fun c j h1 h2 => hr c j (by omega) (by omega) (by omega)), fun k h_ => by rw [hr _ _ (by omega) (by omega) (by omega)]; exact H.wr k h_, fun k h_ => (H.wt k h_).of_eq (fun c h1 h2 => hs c (by omega) (by omega)) (fun c j h1 h2 => hr c j (by omega) (by omega) (by omega))⟩
theorem gl_GL.of_eq {Λ Λ' : gl_Lay} {R R' : Nat → Nat → Option Nat} (H : gl_GL Λ R) (hs : ∀ c, c < 707 → Λ'.2 c = Λ.2 c) (hr : ∀ c j, c < 707 → ¬ (122 ≤ c ∧ c < 138) → ¬ (c = 0 ∧ j = 7) → R' c j = R c j) : gl_GL Λ' R' := ⟨by rw [hs _ (by omega)]; exact H.o, by rw [hr _ _ (by omega) (by omega) (by omega)]; exact H.r0, by rw [hr _ _ (by omega) (by omega) (by omega)]; exact H.r1, by rw [hr _ _ (by omega) (by omega) (by omega)]; exact H.r2, by rw [hr _ _ (by omega) (by omega) (by omega)]; exact H.r3, by rw [hr _ _ (by omega) (by omega) (by omega)]; exact H.r4, by rw [hr _ _ (by omega) (by omega) (by omega)]; exact H.r5, by rw [hr _ _ (by omega) (by omega) (by omega)]; exact H.r6, H.hs.of_eq (fun c h1 h2 => hs c (by omega)) (fun c j h1 h2 h3 => hr c j (by omega) (by omega) (by omega)), ⟨by rw [hs _ (by omega)]; exact H.mx.1, by rw [hs _ (by omega)]; exact H.mx.2.1, by rw [hr _ _ (by omega) (by omega) (by omega)]; exact H.mx.2.2.1, H.mx.2.2.2⟩, by rw [hs _ (by omega)]; exact H.p0, by rw [hs _ (by omega)]; exact H.p1, by rw [hs _ (by omega)]; exact H.p2, by rw [hr _ _ (by omega) (by omega) (by omega)]; exact H.pr0, by rw [hr _ _ (by omega) (by omega) (by omega)]; exact H.pr1, by rw [hr _ _ (by omega) (by omega) (by omega)]; exact H.pr2, by rw [hs _ (by omega)]; exact H.m0, by rw [hs _ (by omega)]; exact H.m1, by rw [hs _ (by omega)]; exact H.m2, by rw [hs _ (by omega)]; exact H.m3, by rw [hs _ (by omega)]; exact H.m4, by rw [hs _ (by omega)]; exact H.m5, by rw [hr _ _ (by omega) (by omega) (by omega)]; exact H.mr0, by rw [hr _ _ (by omega) (by omega) (by omega)]; exact H.mr1, by rw [hr _ _ (by omega) (by omega) (by omega)]; exact H.mr2, by rw [hr _ _ (by omega) (by omega) (by omega)]; exact H.mr3, by rw [hr _ _ (by omega) (by omega) (by omega)]; exact H.mr4, by rw [hr _ _ (by omega) (by omega) (by omega)]; exact H.mr5, H.ak.of_eq (fun c h1 h2 => hs c (by omega)) (fun c j h1 h2 => hr c j (by omega) (by omega) (by omega)), by rw [hs _ (by omega)]; exact H.sc, by rw [hs _ (by omega)]; exact H.mk⟩
theorem gl_GL.new {N N' : Nat} {sh : Nat → Nat × Nat} {R : Nat → Nat → Option Nat} {k : Nat × Nat} {r : Nat → Option Nat} (H : gl_GL (N, sh) R) (hN : 707 ≤ N) : gl_GL (N', va_up sh N k) (va_up R N r) := H.of_eq (fun c hc => gl_up_ne (by omega)) (fun c j hc _ _ => by rw [gl_up_ne (by omega)])
set_option maxHeartbeats 4000000 in
set_option maxRecDepth 100000 in
theorem ct_X8_down {l_ : Launch} {δ : gl_Del} {N : Nat} {sh : Nat → Nat × Nat} {I : Nat → Nat → Int32} {L : Nat → Nat → Int64} {B : Nat → Nat → Bool} {R : Nat → Nat → Option Nat} {m : gl_Mp} {ky : Int32} (h : Nat) (hh : 264 ≤ h) (hG : gl_GL (N, sh) R) (hN : 707 ≤ N) (hm : gl_gm I m) (hml : m.length ≤ 400) (hso : gl_srt m) : gl_Ct l_ δ yX8_down (ws_ yX8_down cX8_down 8 none) (gl_rm h 1 8) 1 8 [.ref 695, .int ky, .ref 705] ((N, sh), I, L, B, R) (gl_Qv fun S => ∃ I', S = ((N + 1, va_up sh N (0, 8)), I', va_up L N (fun _ => 0), va_up B N (fun _ => false), va_up R N (fun _ => none)) ∧ (∀ c, c ≠ 690 → c ≠ 691 → c ≠ 695 → c ≠ 699 → c ≠ 705 → c ≠ N → I' c = I c) ∧ gl_gm I' m ∧ I' 705 = gl_wrs 0 (gl_mdn m ky).1 0 (I 705) ∧ I' 695 7 = nI (gl_mdn m ky).1.length ∧ (((gl_mdn m ky).2 = [] ∧ I' 695 8 = -1) ∨ ∃ q i, (gl_mdn m ky).2 = [q] ∧ i < m.length ∧ I' 695 8 = nI i ∧ gl_at m i = q)) := by
  refine gl_of (by decide) (Nat.le_of_ble_eq_true rfl) rfl ?_
  intro κ C hQ hlκ hδκ hnL hini
  change gl_Cx κ RX8 _ _ _ at C
  have hG1 : gl_GL (N + 1, va_up sh N (0, 8)) (va_up R N (fun _ => none)) := hG.new hN
  have loop : ∀ (f d low high : Nat) (l : gl_Mp) (done : List (Nat → Int32)) (I1 : Nat → Nat → Int32) (x6 x7 : Option Value), d + f = 256 → done.length = d → (∀ i, i < l.length → gl_at m (low + i) = gl_at l i) → high = low + l.length → high ≤ m.length → gl_srt l → (∀ i j, i < l.length → j < l.length → gl_wv (gl_at l i).1 / 2 ^ (256 - d) = gl_wv (gl_at l j).1 / 2 ^ (256 - d)) → gl_tok (fun d q => gl_bit (gl_way (q : Int32 × Nat).1) d) f d l → (∀ c, c ≠ 690 → c ≠ 691 → c ≠ 695 → c ≠ 699 → c ≠ 705 → c ≠ N → I1 c = I c) → gl_gm I1 m → I1 695 7 = nI d → (∀ t, t < 8 → I1 N t = gl_way ky t) → I1 705 = gl_wrs 0 done 0 (I 705) → (gl_mdn m ky).1 = done ++ (gl_dn (fun q => gl_leaf (q : Int32 × Nat).1 (nI q.2)) (fun d q => gl_bit (gl_way (q : Int32 × Nat).1) d) (fun d => gl_bit (gl_way ky) d) f d l).1 → (gl_mdn m ky).2 = (gl_dn (fun q => gl_leaf (q : Int32 × Nat).1 (nI q.2)) (fun d q => gl_bit (gl_way (q : Int32 × Nat).1) d) (fun d => gl_bit (gl_way ky) d) f d l).2 → gl_J κ 1 8 ((N + 1, va_up sh N (0, 8)), I1, va_up L N (fun _ => 0), va_up B N (fun _ => false), va_up R N (fun _ => none)) 29 [some (.ref 695), some (.int ky), some (.ref 705), some (.ref N), some (.int (nI low)), some (.int (nI high)), x6, x7] [] := by
    intro f
    induction f with
    | zero =>
      intro d low high l done I1 x6 x7 hdf hdn hseg hhi hhm hso hag hok hfr hm1 hpt hwy hrw hd1 hd2
      subst hhi
      have hok : l.length ≤ 1 := hok
      refine j_iload C dX8_down_29 rfl 31 rfl ?_
      refine j_iload C dX8_down_31 rfl 33 rfl ?_
      refine j_iconst (v := nI 1) C dX8_down_33 (by decide) 34 rfl ?_
      refine n_iadd C dX8_down_34 35 rfl ?_
      refine n_icmp_le C 157 38 dX8_down_35 (by decide) rfl (by omega) (by omega) (fun c_35 => ?_) (fun c_35 => ?_)
      · have hl1 : l.length ≤ 1 := by omega
        rw [gl_dn_1 hl1] at hd1 hd2
        have hd1 : (gl_mdn m ky).1 = done ++ [] := hd1
        have hd2 : (gl_mdn m ky).2 = l := hd2
        refine j_aload_n C dX8_down_157 rfl 158 rfl ?_
        refine j_iload C dX8_down_158 rfl 160 rfl ?_
        refine j_iload C dX8_down_160 rfl 162 rfl ?_
        refine n_icmp_le C 170 165 dX8_down_162 (by decide) rfl (by omega) (by omega) (fun c_162 => ?_) (fun c_162 => ?_)
        · refine j_iconst (v := -1) C dX8_down_170 (by decide) 171 rfl ?_
          refine pf_X8_93 C hG1.m0 dX8_down_171 174 rfl ?_
          exact j_ret C hQ ⟨_, rfl, fun c h1 h2 h3 h4 h5 h6 => by rw [gl_u2_ne h3]; exact hfr c h1 h2 h3 h4 h5 h6, gl_gm_eq hm1 (by rw [gl_u2_eq, gl_up_ne (by decide)]) (by rw [gl_u2_ne (by decide)]) (by rw [gl_u2_ne (by decide)]) (by rw [gl_u2_ne (by decide)]), by rw [gl_u2_ne (by decide), hrw, hd1, List.append_nil], by rw [gl_u2_eq, gl_up_ne (by decide), hpt, hd1, List.append_nil, hdn], Or.inl ⟨by rw [hd2]; exact List.length_eq_zero_iff.mp (by omega), by rw [gl_u2_eq, gl_up_eq]⟩⟩ (by omega) (by omega) dX8_down_174
        · refine j_iload C dX8_down_165 rfl 167 rfl ?_
          refine j_goto (tgt := 171) C dX8_down_167 (by decide) ?_
          refine pf_X8_93 C hG1.m0 dX8_down_171 174 rfl ?_
          exact j_ret C hQ ⟨_, rfl, fun c h1 h2 h3 h4 h5 h6 => by rw [gl_u2_ne h3]; exact hfr c h1 h2 h3 h4 h5 h6, gl_gm_eq hm1 (by rw [gl_u2_eq, gl_up_ne (by decide)]) (by rw [gl_u2_ne (by decide)]) (by rw [gl_u2_ne (by decide)]) (by rw [gl_u2_ne (by decide)]), by rw [gl_u2_ne (by decide), hrw, hd1, List.append_nil], by rw [gl_u2_eq, gl_up_ne (by decide), hpt, hd1, List.append_nil, hdn], by
                    obtain ⟨q0, hq0⟩ : ∃ q, l = [q] := List.length_eq_one_iff.mp (by omega)
                    refine Or.inr ⟨q0, low, by rw [hd2, hq0], by omega, by rw [gl_u2_eq, gl_up_eq], ?_⟩
                    have := hseg 0 (by omega)
                    rw [hq0] at this
                    exact this⟩ (by omega) (by omega) dX8_down_174
      · exact absurd c_35 (by omega)
    | succ f ih =>
      intro d low high l done I1 x6 x7 hdf hdn hseg hhi hhm hso hag hok hfr hm1 hpt hwy hrw hd1 hd2
      subst hhi
      refine j_iload C dX8_down_29 rfl 31 rfl ?_
      refine j_iload C dX8_down_31 rfl 33 rfl ?_
      refine j_iconst (v := nI 1) C dX8_down_33 (by decide) 34 rfl ?_
      refine n_iadd C dX8_down_34 35 rfl ?_
      refine n_icmp_le C 157 38 dX8_down_35 (by decide) rfl (by omega) (by omega) (fun c_35 => ?_) (fun c_35 => ?_)
      · have hl1 : l.length ≤ 1 := by omega
        rw [gl_dn_1 hl1] at hd1 hd2
        have hd1 : (gl_mdn m ky).1 = done ++ [] := hd1
        have hd2 : (gl_mdn m ky).2 = l := hd2
        refine j_aload_n C dX8_down_157 rfl 158 rfl ?_
        refine j_iload C dX8_down_158 rfl 160 rfl ?_
        refine j_iload C dX8_down_160 rfl 162 rfl ?_
        refine n_icmp_le C 170 165 dX8_down_162 (by decide) rfl (by omega) (by omega) (fun c_162 => ?_) (fun c_162 => ?_)
        · refine j_iconst (v := -1) C dX8_down_170 (by decide) 171 rfl ?_
          refine pf_X8_93 C hG1.m0 dX8_down_171 174 rfl ?_
          exact j_ret C hQ ⟨_, rfl, fun c h1 h2 h3 h4 h5 h6 => by rw [gl_u2_ne h3]; exact hfr c h1 h2 h3 h4 h5 h6, gl_gm_eq hm1 (by rw [gl_u2_eq, gl_up_ne (by decide)]) (by rw [gl_u2_ne (by decide)]) (by rw [gl_u2_ne (by decide)]) (by rw [gl_u2_ne (by decide)]), by rw [gl_u2_ne (by decide), hrw, hd1, List.append_nil], by rw [gl_u2_eq, gl_up_ne (by decide), hpt, hd1, List.append_nil, hdn], Or.inl ⟨by rw [hd2]; exact List.length_eq_zero_iff.mp (by omega), by rw [gl_u2_eq, gl_up_eq]⟩⟩ (by omega) (by omega) dX8_down_174
        · refine j_iload C dX8_down_165 rfl 167 rfl ?_
          refine j_goto (tgt := 171) C dX8_down_167 (by decide) ?_
          refine pf_X8_93 C hG1.m0 dX8_down_171 174 rfl ?_
          exact j_ret C hQ ⟨_, rfl, fun c h1 h2 h3 h4 h5 h6 => by rw [gl_u2_ne h3]; exact hfr c h1 h2 h3 h4 h5 h6, gl_gm_eq hm1 (by rw [gl_u2_eq, gl_up_ne (by decide)]) (by rw [gl_u2_ne (by decide)]) (by rw [gl_u2_ne (by decide)]) (by rw [gl_u2_ne (by decide)]), by rw [gl_u2_ne (by decide), hrw, hd1, List.append_nil], by rw [gl_u2_eq, gl_up_ne (by decide), hpt, hd1, List.append_nil, hdn], by
                    obtain ⟨q0, hq0⟩ : ∃ q, l = [q] := List.length_eq_one_iff.mp (by omega)
                    refine Or.inr ⟨q0, low, by rw [hd2, hq0], by omega, by rw [gl_u2_eq, gl_up_eq], ?_⟩
                    have := hseg 0 (by omega)
                    rw [hq0] at this
                    exact this⟩ (by omega) (by omega) dX8_down_174
      · have hl2 : 2 ≤ l.length := by omega
        have hok2 := hok.resolve_left (by omega)
        refine j_aload_n C dX8_down_38 rfl 39 rfl ?_
        refine j_iload C dX8_down_39 rfl 41 rfl ?_
        refine j_iload C dX8_down_41 rfl 43 rfl ?_
        refine j_aload_n C dX8_down_43 rfl 44 rfl ?_
        refine gf_X8_90 C hG1.m0 dX8_down_44 47 rfl ?_
        rw [hpt]
        refine j_ci C (cs_X8_78 C (ct_X8_parting (I := I1) (l := l) (m := m) (d := d) (h - 1) (by omega) hG1 hm1 hml hseg rfl hhm hso hag (by omega)) hG1.m0 rfl (by omega) (by omega) (by omega) rfl (Nat.le_of_ble_eq_true rfl) dX8_down_47) 50 rfl ?_
        rintro _ _ ⟨p, rfl, hp, hz, ho, rfl⟩
        have hff := gl_flt (l := l) (p := p) (b := fun q => gl_bit (gl_way q.1) d) hz ho hp
        rw [hff.1, hff.2] at hok2
        have hlt_ : (l.take p).length = p := by rw [List.length_take]; omega
        have hld_ : (l.drop p).length = l.length - p := List.length_drop
        have go_true : gl_bit (gl_way ky) d = true → gl_J κ 1 8 ((N + 1, va_up sh N (0, 8)), I1, va_up L N (fun _ => 0), va_up B N (fun _ => false), va_up R N (fun _ => none)) 63 [some (.ref 695), some (.int ky), some (.ref 705), some (.ref N), some (.int (nI low)), some (.int (nI (low + l.length))), some (.int (nI (low + p))), some (.int (b2i true))] [] := by
          intro hkb
          refine j_aload_n C dX8_down_63 rfl 64 rfl ?_
          refine j_iload C dX8_down_64 rfl 66 rfl ?_
          refine b_if_eq C 74 69 dX8_down_66 (by decide) rfl (fun c_66 => ?_) (fun c_66 => ?_)
          · exact absurd c_66 (by decide)
          · refine j_iload C dX8_down_69 rfl 71 rfl ?_
            refine j_goto (tgt := 76) C dX8_down_71 (by decide) ?_
            refine j_iload C dX8_down_76 rfl 78 rfl ?_
            refine b_if_eq C 86 81 dX8_down_78 (by decide) rfl (fun c_78 => ?_) (fun c_78 => ?_)
            · exact absurd c_78 (by decide)
            · refine j_iload C dX8_down_81 rfl 83 rfl ?_
              refine j_goto (tgt := 88) C dX8_down_83 (by decide) ?_
              refine j_aload_n C dX8_down_88 rfl 89 rfl ?_
              refine gf_X8_90 C hG1.m0 dX8_down_89 92 rfl ?_
              rw [hpt]
              refine j_iconst (v := nI 1) C dX8_down_92 (by decide) 93 rfl ?_
              refine n_iadd C dX8_down_93 94 rfl ?_
              refine j_iconst (v := nI 0) C dX8_down_94 (by decide) 95 rfl ?_
              refine j_cv C (cs_X8_82 C (ct_X8_tree f (I := I1) (m := m) (l := (l.take p)) (low := low) (high := low + p) (d := d + 1) (at_ := 0) (h - 1) (by omega) hG1 hm1 hml (fun i hi => by rw [hlt_] at hi; rw [gl_at_take hi]; exact hseg i (by omega)) (by rw [hlt_]) (by omega) (fun i j hij hj => by rw [hlt_] at hj; rw [gl_at_take (by omega), gl_at_take hj]; exact hso i j hij (by omega)) (fun i j hi hj => by rw [hlt_] at hi hj; rw [gl_at_take hi, gl_at_take hj]; exact gl_bit_next (by omega) (hag i j (by omega) (by omega)) (by rw [hz i hi, hz j hj])) (by omega) (by omega) hok2.1) hG1.m0 rfl (by omega) (by omega) (by omega) rfl (Nat.le_of_ble_eq_true rfl) dX8_down_95) 98 rfl ?_
              rintro _ ⟨I2, rfl, e1, e2, e3⟩
              refine j_aload_n C dX8_down_98 rfl 99 rfl ?_
              refine gf_X8_21 C hG1.m0 hG1.mr4 dX8_down_99 102 rfl ?_
              refine j_iconst (v := nI 0) C dX8_down_102 (by decide) 103 rfl ?_
              refine j_aload_n C dX8_down_103 rfl 104 rfl ?_
              refine j_aload_n C dX8_down_104 rfl 105 rfl ?_
              refine gf_X8_90 C hG1.m0 dX8_down_105 108 rfl ?_
              rw [e1 695 (by decide) (by decide) (by decide), hpt]
              refine j_bipush (v := nI 8) C dX8_down_108 (by decide) 110 rfl ?_
              refine n_imul C dX8_down_110 111 rfl ?_
              refine j_bipush (v := nI 8) C dX8_down_111 (by decide) 113 rfl ?_
              refine j_copyI C q507 hG1.m4 hG1.sc (by omega) (by omega) (by decide) (by decide) (by omega) (Nat.le_of_ble_eq_true rfl) dX8_down_113 116 rfl ?_
              refine j_iload C dX8_down_116 rfl 118 rfl ?_
              refine b_if_eq C 126 121 dX8_down_118 (by decide) rfl (fun c_118 => ?_) (fun c_118 => ?_)
              · exact absurd c_118 (by decide)
              · refine j_iload C dX8_down_121 rfl 123 rfl ?_
                refine j_goto (tgt := 128) C dX8_down_123 (by decide) ?_
                refine j_istore C dX8_down_128 (Nat.le_of_ble_eq_true rfl) (by rw [hnL]; decide) rfl 130 rfl ?_
                refine j_iload C dX8_down_130 rfl 132 rfl ?_
                refine b_if_eq C 140 135 dX8_down_132 (by decide) rfl (fun c_132 => ?_) (fun c_132 => ?_)
                · exact absurd c_132 (by decide)
                · refine j_iload C dX8_down_135 rfl 137 rfl ?_
                  refine j_goto (tgt := 142) C dX8_down_137 (by decide) ?_
                  refine j_istore C dX8_down_142 (Nat.le_of_ble_eq_true rfl) (by rw [hnL]; decide) rfl 144 rfl ?_
                  refine j_aload_n C dX8_down_144 rfl 145 rfl ?_
                  refine j_dup C dX8_down_145 rfl 146 rfl ?_
                  refine gf_X8_90 C hG1.m0 dX8_down_146 149 rfl ?_
                  rw [gl_up_ne (show (695 : Nat) ≠ 705 by decide), e1 695 (by decide) (by decide) (by decide), hpt]
                  refine j_iconst (v := nI 1) C dX8_down_149 (by decide) 150 rfl ?_
                  refine n_iadd C dX8_down_150 151 rfl ?_
                  refine pf_X8_90 C hG1.m0 dX8_down_151 154 rfl ?_
                  refine j_goto (tgt := 29) C dX8_down_154 (by decide) ?_
                  rw [gl_dn_r hl2 hkb] at hd1 hd2
                  have hd1 : (gl_mdn m ky).1 = done ++ (gl_tr (fun q => gl_leaf (q : Int32 × Nat).1 (nI q.2)) (fun d q => gl_bit (gl_way (q : Int32 × Nat).1) d) f (d + 1) (l.filter fun z => !gl_bit (gl_way z.1) d) :: (gl_dn (fun q => gl_leaf (q : Int32 × Nat).1 (nI q.2)) (fun d q => gl_bit (gl_way (q : Int32 × Nat).1) d) (fun d => gl_bit (gl_way ky) d) f (d + 1) (l.filter fun z => gl_bit (gl_way z.1) d)).1) := hd1
                  have hd2 : (gl_mdn m ky).2 = (gl_dn (fun q => gl_leaf (q : Int32 × Nat).1 (nI q.2)) (fun d q => gl_bit (gl_way (q : Int32 × Nat).1) d) (fun d => gl_bit (gl_way ky) d) f (d + 1) (l.filter fun z => gl_bit (gl_way z.1) d)).2 := hd2
                  rw [hff.1, hff.2] at hd1
                  rw [hff.2] at hd2
                  refine ih (d + 1) _ _ (l.drop p) (done ++ [gl_tr (fun q => gl_leaf (q : Int32 × Nat).1 (nI q.2)) (fun d q => gl_bit (gl_way (q : Int32 × Nat).1) d) f (d + 1) (l.take p)]) _ _ _ (by omega) (by rw [List.length_append, hdn]; rfl) (fun i hi => by rw [hld_] at hi; rw [gl_at_drop, Nat.add_assoc]; exact hseg (p + i) (by omega)) (by rw [hld_]; omega) hhm (fun i j hij hj => by rw [hld_] at hj; rw [gl_at_drop, gl_at_drop]; exact hso (p + i) (p + j) (by omega) (by omega)) (fun i j hi hj => by rw [hld_] at hi hj; rw [gl_at_drop, gl_at_drop]; exact gl_bit_next (by omega) (hag (p + i) (p + j) (by omega) (by omega)) (by rw [ho (p + i) (by omega) (by omega), ho (p + j) (by omega) (by omega)])) hok2.2 (fun c h1 h2 h3 h4 h5 h6 => ?_) (gl_gm_eq hm1 ?_ ?_ ?_ ?_) ?_ (fun t ht => ?_) ?_ ?_ hd2
                  · rw [gl_u2_ne h3, gl_up_ne h5, e1 c h1 h2 h4]; exact hfr c h1 h2 h3 h4 h5 h6
                  · rw [gl_u2_eq, gl_up_ne (by decide), gl_up_ne (by decide), e1 _ (by decide) (by decide) (by decide)]
                  · rw [gl_u2_ne (by decide), gl_up_ne (by decide), e1 _ (by decide) (by decide) (by decide)]
                  · rw [gl_u2_ne (by decide), gl_up_ne (by decide), e1 _ (by decide) (by decide) (by decide)]
                  · rw [gl_u2_ne (by decide), gl_up_ne (by decide), e1 _ (by decide) (by decide) (by decide)]
                  · rw [gl_u2_eq, gl_up_eq]
                  · rw [gl_u2_ne (by omega), gl_up_ne (by omega), e1 _ (by omega) (by omega) (by omega)]; exact hwy t ht
                  · rw [gl_u2_ne (by decide), gl_up_eq, e1 705 (by decide) (by decide) (by decide), hrw, gl_wrs_app, hdn, Nat.zero_add]
                    show _ = va_cpy _ (gl_wrs 0 done 0 (I 705)) 0 (0 + 8 * d) 8
                    rw [show 0 + 8 * d = d * 8 by omega]
                    exact gl_cpy_congr (fun t ht => by have := e3 t ht; rw [show 0 * 8 + t = t by omega] at this; exact this)
                  · rw [hd1, List.append_assoc]; rfl
        have go_false : gl_bit (gl_way ky) d = false → gl_J κ 1 8 ((N + 1, va_up sh N (0, 8)), I1, va_up L N (fun _ => 0), va_up B N (fun _ => false), va_up R N (fun _ => none)) 63 [some (.ref 695), some (.int ky), some (.ref 705), some (.ref N), some (.int (nI low)), some (.int (nI (low + l.length))), some (.int (nI (low + p))), some (.int (b2i false))] [] := by
          intro hkb
          refine j_aload_n C dX8_down_63 rfl 64 rfl ?_
          refine j_iload C dX8_down_64 rfl 66 rfl ?_
          refine b_if_eq C 74 69 dX8_down_66 (by decide) rfl (fun c_66 => ?_) (fun c_66 => ?_)
          · refine j_iload C dX8_down_74 rfl 76 rfl ?_
            refine j_iload C dX8_down_76 rfl 78 rfl ?_
            refine b_if_eq C 86 81 dX8_down_78 (by decide) rfl (fun c_78 => ?_) (fun c_78 => ?_)
            · refine j_iload C dX8_down_86 rfl 88 rfl ?_
              refine j_aload_n C dX8_down_88 rfl 89 rfl ?_
              refine gf_X8_90 C hG1.m0 dX8_down_89 92 rfl ?_
              rw [hpt]
              refine j_iconst (v := nI 1) C dX8_down_92 (by decide) 93 rfl ?_
              refine n_iadd C dX8_down_93 94 rfl ?_
              refine j_iconst (v := nI 0) C dX8_down_94 (by decide) 95 rfl ?_
              refine j_cv C (cs_X8_82 C (ct_X8_tree f (I := I1) (m := m) (l := (l.drop p)) (low := low + p) (high := low + l.length) (d := d + 1) (at_ := 0) (h - 1) (by omega) hG1 hm1 hml (fun i hi => by rw [hld_] at hi; rw [gl_at_drop, Nat.add_assoc]; exact hseg (p + i) (by omega)) (by rw [hld_]; omega) hhm (fun i j hij hj => by rw [hld_] at hj; rw [gl_at_drop, gl_at_drop]; exact hso (p + i) (p + j) (by omega) (by omega)) (fun i j hi hj => by rw [hld_] at hi hj; rw [gl_at_drop, gl_at_drop]; exact gl_bit_next (by omega) (hag (p + i) (p + j) (by omega) (by omega)) (by rw [ho (p + i) (by omega) (by omega), ho (p + j) (by omega) (by omega)])) (by omega) (by omega) hok2.2) hG1.m0 rfl (by omega) (by omega) (by omega) rfl (Nat.le_of_ble_eq_true rfl) dX8_down_95) 98 rfl ?_
              rintro _ ⟨I2, rfl, e1, e2, e3⟩
              refine j_aload_n C dX8_down_98 rfl 99 rfl ?_
              refine gf_X8_21 C hG1.m0 hG1.mr4 dX8_down_99 102 rfl ?_
              refine j_iconst (v := nI 0) C dX8_down_102 (by decide) 103 rfl ?_
              refine j_aload_n C dX8_down_103 rfl 104 rfl ?_
              refine j_aload_n C dX8_down_104 rfl 105 rfl ?_
              refine gf_X8_90 C hG1.m0 dX8_down_105 108 rfl ?_
              rw [e1 695 (by decide) (by decide) (by decide), hpt]
              refine j_bipush (v := nI 8) C dX8_down_108 (by decide) 110 rfl ?_
              refine n_imul C dX8_down_110 111 rfl ?_
              refine j_bipush (v := nI 8) C dX8_down_111 (by decide) 113 rfl ?_
              refine j_copyI C q507 hG1.m4 hG1.sc (by omega) (by omega) (by decide) (by decide) (by omega) (Nat.le_of_ble_eq_true rfl) dX8_down_113 116 rfl ?_
              refine j_iload C dX8_down_116 rfl 118 rfl ?_
              refine b_if_eq C 126 121 dX8_down_118 (by decide) rfl (fun c_118 => ?_) (fun c_118 => ?_)
              · refine j_iload C dX8_down_126 rfl 128 rfl ?_
                refine j_istore C dX8_down_128 (Nat.le_of_ble_eq_true rfl) (by rw [hnL]; decide) rfl 130 rfl ?_
                refine j_iload C dX8_down_130 rfl 132 rfl ?_
                refine b_if_eq C 140 135 dX8_down_132 (by decide) rfl (fun c_132 => ?_) (fun c_132 => ?_)
                · refine j_iload C dX8_down_140 rfl 142 rfl ?_
                  refine j_istore C dX8_down_142 (Nat.le_of_ble_eq_true rfl) (by rw [hnL]; decide) rfl 144 rfl ?_
                  refine j_aload_n C dX8_down_144 rfl 145 rfl ?_
                  refine j_dup C dX8_down_145 rfl 146 rfl ?_
                  refine gf_X8_90 C hG1.m0 dX8_down_146 149 rfl ?_
                  rw [gl_up_ne (show (695 : Nat) ≠ 705 by decide), e1 695 (by decide) (by decide) (by decide), hpt]
                  refine j_iconst (v := nI 1) C dX8_down_149 (by decide) 150 rfl ?_
                  refine n_iadd C dX8_down_150 151 rfl ?_
                  refine pf_X8_90 C hG1.m0 dX8_down_151 154 rfl ?_
                  refine j_goto (tgt := 29) C dX8_down_154 (by decide) ?_
                  rw [gl_dn_l hl2 hkb] at hd1 hd2
                  have hd1 : (gl_mdn m ky).1 = done ++ (gl_tr (fun q => gl_leaf (q : Int32 × Nat).1 (nI q.2)) (fun d q => gl_bit (gl_way (q : Int32 × Nat).1) d) f (d + 1) (l.filter fun z => gl_bit (gl_way z.1) d) :: (gl_dn (fun q => gl_leaf (q : Int32 × Nat).1 (nI q.2)) (fun d q => gl_bit (gl_way (q : Int32 × Nat).1) d) (fun d => gl_bit (gl_way ky) d) f (d + 1) (l.filter fun z => !gl_bit (gl_way z.1) d)).1) := hd1
                  have hd2 : (gl_mdn m ky).2 = (gl_dn (fun q => gl_leaf (q : Int32 × Nat).1 (nI q.2)) (fun d q => gl_bit (gl_way (q : Int32 × Nat).1) d) (fun d => gl_bit (gl_way ky) d) f (d + 1) (l.filter fun z => !gl_bit (gl_way z.1) d)).2 := hd2
                  rw [hff.1, hff.2] at hd1
                  rw [hff.1] at hd2
                  refine ih (d + 1) _ _ (l.take p) (done ++ [gl_tr (fun q => gl_leaf (q : Int32 × Nat).1 (nI q.2)) (fun d q => gl_bit (gl_way (q : Int32 × Nat).1) d) f (d + 1) (l.drop p)]) _ _ _ (by omega) (by rw [List.length_append, hdn]; rfl) (fun i hi => by rw [hlt_] at hi; rw [gl_at_take hi]; exact hseg i (by omega)) (by rw [hlt_]) (by omega) (fun i j hij hj => by rw [hlt_] at hj; rw [gl_at_take (by omega), gl_at_take hj]; exact hso i j hij (by omega)) (fun i j hi hj => by rw [hlt_] at hi hj; rw [gl_at_take hi, gl_at_take hj]; exact gl_bit_next (by omega) (hag i j (by omega) (by omega)) (by rw [hz i hi, hz j hj])) hok2.1 (fun c h1 h2 h3 h4 h5 h6 => ?_) (gl_gm_eq hm1 ?_ ?_ ?_ ?_) ?_ (fun t ht => ?_) ?_ ?_ hd2
                  · rw [gl_u2_ne h3, gl_up_ne h5, e1 c h1 h2 h4]; exact hfr c h1 h2 h3 h4 h5 h6
                  · rw [gl_u2_eq, gl_up_ne (by decide), gl_up_ne (by decide), e1 _ (by decide) (by decide) (by decide)]
                  · rw [gl_u2_ne (by decide), gl_up_ne (by decide), e1 _ (by decide) (by decide) (by decide)]
                  · rw [gl_u2_ne (by decide), gl_up_ne (by decide), e1 _ (by decide) (by decide) (by decide)]
                  · rw [gl_u2_ne (by decide), gl_up_ne (by decide), e1 _ (by decide) (by decide) (by decide)]
                  · rw [gl_u2_eq, gl_up_eq]
                  · rw [gl_u2_ne (by omega), gl_up_ne (by omega), e1 _ (by omega) (by omega) (by omega)]; exact hwy t ht
                  · rw [gl_u2_ne (by decide), gl_up_eq, e1 705 (by decide) (by decide) (by decide), hrw, gl_wrs_app, hdn, Nat.zero_add]
                    show _ = va_cpy _ (gl_wrs 0 done 0 (I 705)) 0 (0 + 8 * d) 8
                    rw [show 0 + 8 * d = d * 8 by omega]
                    exact gl_cpy_congr (fun t ht => by have := e3 t ht; rw [show 0 * 8 + t = t by omega] at this; exact this)
                  · rw [hd1, List.append_assoc]; rfl
                · exact absurd c_132 (by decide)
              · exact absurd c_118 (by decide)
            · exact absurd c_78 (by decide)
          · exact absurd c_66 (by decide)
        refine j_istore C dX8_down_50 (Nat.le_of_ble_eq_true rfl) (by rw [hnL]; decide) rfl 52 rfl ?_
        refine j_aload_n C dX8_down_52 rfl 53 rfl ?_
        refine j_iconst (v := nI 0) C dX8_down_53 (by decide) 54 rfl ?_
        refine j_aload_n C dX8_down_54 rfl 55 rfl ?_
        refine gf_X8_90 C hG1.m0 dX8_down_55 58 rfl ?_
        rw [hpt]
        refine j_ci C (cs_X8_66 C (ct_X0_bit (x := N) (nx := 8) (fr := 0) (d := d) (h - 1) (by omega) gl_up_eq (by decide) (by decide) (by omega)) rfl (by omega) (by omega) (by omega) rfl (Nat.le_of_ble_eq_true rfl) dX8_down_58) 61 rfl ?_
        rintro _ _ ⟨rfl, rfl⟩
        rw [show gl_bit (fun t => I1 N (0 + t)) d = gl_bit (gl_way ky) d from gl_bit_congr (by omega) (fun t ht => by rw [Nat.zero_add]; exact hwy t ht)]
        refine j_istore C dX8_down_61 (Nat.le_of_ble_eq_true rfl) (by rw [hnL]; decide) rfl 63 rfl ?_
        cases hkb : gl_bit (gl_way ky) d with
        | true => exact go_true hkb
        | false => exact go_false hkb
  refine j_bipush (v := nI 8) C dX8_down_0 (by decide) 2 rfl ?_
  refine j_newarrI C (by decide) (by omega) (by omega) dX8_down_2 4 rfl ?_
  refine j_astore_n C dX8_down_4 (Nat.le_of_ble_eq_true rfl) (by rw [hnL]; decide) rfl 5 rfl ?_
  refine j_aload_n C dX8_down_5 rfl 6 rfl ?_
  refine gf_X8_27 C hG1.m0 hG1.mr0 dX8_down_6 9 rfl ?_
  refine j_iload_n C dX8_down_9 rfl 10 rfl ?_
  refine j_aload_n C dX8_down_10 rfl 11 rfl ?_
  refine j_iconst (v := nI 0) C dX8_down_11 (by decide) 12 rfl ?_
  refine j_cv C (cs_X8_50 C (ct_X6_way (to := N) (nt := 8) (at_ := 0) (h - 1) (by omega) hG1.mx gl_up_eq (by omega) (by decide) (by decide)) hG1.mx.1 rfl (by omega) (by omega) (by omega) rfl (Nat.le_of_ble_eq_true rfl) dX8_down_12) 15 rfl ?_
  rintro _ rfl
  refine j_iconst (v := nI 0) C dX8_down_15 (by decide) 16 rfl ?_
  refine j_istore C dX8_down_16 (Nat.le_of_ble_eq_true rfl) (by rw [hnL]; decide) rfl 18 rfl ?_
  refine j_aload_n C dX8_down_18 rfl 19 rfl ?_
  refine gf_X8_31 C hG1.m0 dX8_down_19 22 rfl ?_
  rw [gl_up_ne (show 695 ≠ N by omega), gl_m1_o (by decide) (by decide), gl_up_ne (show 695 ≠ N by omega), hm.1]
  refine j_istore C dX8_down_22 (Nat.le_of_ble_eq_true rfl) (by rw [hnL]; decide) rfl 24 rfl ?_
  refine j_aload_n C dX8_down_24 rfl 25 rfl ?_
  refine j_iconst (v := nI 0) C dX8_down_25 (by decide) 26 rfl ?_
  refine pf_X8_90 C hG1.m0 dX8_down_26 29 rfl ?_
  refine loop 256 0 0 m.length m [] _ _ _ rfl rfl (fun i _ => by rw [Nat.zero_add]) (by omega) (Nat.le_refl _) hso (fun i j _ _ => by rw [gl_wv_div, gl_wv_div]) (gl_tok_keys (gl_srt_pw hso)) (fun c h1 h2 h3 h4 h5 h6 => ?_) (gl_gm_eq hm ?_ ?_ ?_ ?_) ?_ (fun t ht => ?_) ?_ rfl rfl
  · rw [gl_u2_ne h3, gl_up_ne h6, gl_m1_o h1 h2, gl_up_ne h6]
  · rw [gl_u2_eq, gl_up_ne (by decide), gl_up_ne (by omega), gl_m1_o (by decide) (by decide), gl_up_ne (by omega)]
  · rw [gl_u2_ne (by decide), gl_up_ne (by omega), gl_m1_o (by decide) (by decide), gl_up_ne (by omega)]
  · rw [gl_u2_ne (by decide), gl_up_ne (by omega), gl_m1_o (by decide) (by decide), gl_up_ne (by omega)]
  · rw [gl_u2_ne (by decide), gl_up_ne (by omega), gl_m1_o (by decide) (by decide), gl_up_ne (by omega)]
  · rw [gl_u2_eq, gl_up_eq]
  · rw [gl_u2_ne (by omega), gl_up_eq, pk_cpy_in (by omega) (by omega)]; congr 1; omega
  · rw [gl_u2_ne (by decide), gl_up_ne (by omega), gl_m1_o (by decide) (by decide), gl_up_ne (by omega)]; rfl
