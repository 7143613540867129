/-! MODULE Model, watchers: watch (by gen61.py) -/
set_option maxRecDepth 100000
theorem gl_lmb {cn : Nat → Bool} {K : Nat → Int32} : ∀ (n i : Nat), i < (gl_map cn K n).length → (gl_at (gl_map cn K n) i).2 < n
  | 0, i, h => absurd h (by unfold gl_map; simp)
  | n + 1, i, h => by
    unfold gl_map at h ⊢
    by_cases hc : cn n = true
    · rw [if_pos hc] at h ⊢
      unfold gl_mi at h ⊢
      by_cases hq : gl_fk (gl_map cn K n) (K n) < (gl_map cn K n).length
      · rw [if_pos hq, List.length_set] at h
        rw [if_pos hq, gl_at_set hq]
        by_cases hi : i = gl_fk (gl_map cn K n) (K n)
        · rw [if_pos hi]; exact Nat.lt_succ_self n
        · rw [if_neg hi]; exact Nat.lt_succ_of_lt (gl_lmb n i h)
      · rw [if_neg hq, List.length_append] at h
        rw [if_neg hq, gl_at_app]
        by_cases hi : i = (gl_map cn K n).length
        · rw [if_pos hi]; exact Nat.lt_succ_self n
        · rw [if_neg hi]; exact Nat.lt_succ_of_lt (gl_lmb n i (by have : i < (gl_map cn K n).length + 1 := h; omega))
    · rw [if_neg hc] at h ⊢
      exact Nat.lt_succ_of_lt (gl_lmb n i h)
def gl_watch (I : Nat → Nat → Int32) (L : Nat → Nat → Int64) (B : Nat → Nat → Bool) (mn hd ld : Nat → Nat) (sn : Nat → Nat → Nat) (wl wg : Nat → Nat) (ws : Nat → gl_Mp) (x r : Int32) (S : gl_Sto) : Prop := if gl_in x 8 = true ∧ B 17 x.toNatClampNeg = true then (∃ I' W, W = gl_wrd (gl_wok2 (fun i => B 4 (400 * wl x.toNatClampNeg + i)) (fun i => I 2 (400 * wl x.toNatClampNeg + i)) (I 16 (5 * x.toNatClampNeg + 1)) (I 16 (5 * x.toNatClampNeg + 2))) (fun i => I 2 (400 * wl x.toNatClampNeg + i)) (mn (wl x.toNatClampNeg) - wg x.toNatClampNeg) (wg x.toNatClampNeg) (ws x.toNatClampNeg) ∧ r = nI (gl_wct (gl_lmap I B hd ld sn (wl x.toNatClampNeg) (mn (wl x.toNatClampNeg))) W W.length) ∧ S = (gl_mL, I', L, B, gl_mR) ∧ gl_fq [16, 18, 19, 39, 40, 47, 48, 49, 50] [57] I I' ∧ I' 16 = va_up (va_up (I 16) (5 * x.toNatClampNeg + 4) (nI W.length)) (5 * x.toNatClampNeg + 3) (nI (mn (wl x.toNatClampNeg))) ∧ W.length ≤ mn (wl x.toNatClampNeg) ∧ gl_wm2 (I' 18) (I' 19) x.toNatClampNeg W ∧ ∀ k, k < 400 * x.toNatClampNeg ∨ 400 * x.toNatClampNeg + 400 ≤ k → I' 18 k = I 18 k ∧ I' 19 k = I 19 k) else (r = -1 ∧ S = (gl_mL, I, L, B, gl_mR))
set_option maxHeartbeats 4000000 in
set_option maxRecDepth 100000 in
theorem ct_X9_watch {l : Launch} {δ : gl_Del} {I : Nat → Nat → Int32} {L : Nat → Nat → Int64} {B : Nat → Nat → Bool} {lm : Nat} {mn hd ld : Nat → Nat} {sn : Nat → Nat → Nat} {wl wg : Nat → Nat} {ws : Nat → gl_Mp} {x : Int32} (h : Nat) (hh : 6 ≤ h) (H : gl_LI I lm mn hd ld sn) (WI : gl_WI I B lm mn wl wg ws) : gl_Ct l δ yX9_watch (ws_ yX9_watch cX9_watch 6 ((some FieldType.int))) (gl_rm h 0 0) 0 0 [.ref 0, .int x] (gl_mL, I, L, B, gl_mR) (gl_Qi fun r S => gl_watch I L B mn hd ld sn wl wg ws x r S) := by
  refine gl_of (by decide) (Nat.le_of_ble_eq_true rfl) rfl ?_
  intro κ C hQ hlκ hδκ hnL hini
  change gl_Cx κ RX9 _ _ _ at C
  have hlm6 : lm ≤ 6 := H.2.1
  refine j_aload_n C dX9_watch_0 rfl 1 rfl ?_
  refine j_iload_n C dX9_watch_1 rfl 2 rfl ?_
  refine j_ci C (cs_X9_353 C (ct_X9_isWatcher (h - 1) (by omega)) rfl rfl (by omega) (by omega) (by omega) rfl (Nat.le_of_ble_eq_true rfl) dX9_watch_2) 5 rfl ?_
  rintro _ _ ⟨rfl, rfl⟩
  refine b_if_eq C 17 8 dX9_watch_5 (by decide) rfl (fun c_5 => ?_) (fun c_5 => ?_)
  · refine j_iconst (v := -1) C dX9_watch_17 (by decide) 18 rfl ?_
    exact j_iret C hQ (by rw [gl_watch, if_neg (fun q => by rw [c_5] at q; cases q.1)]; exact ⟨rfl, rfl⟩) (by omega) (by omega) dX9_watch_18
  · obtain ⟨w, hw, rfl⟩ := (gl_in_iff (by decide)).mp c_5
    have hca : (nI w).toNatClampNeg = w := nI_clamp (by omega)
    refine j_aload_n C dX9_watch_8 rfl 9 rfl ?_
    refine gf_X9_61 C rfl rfl dX9_watch_9 12 rfl ?_
    refine j_iload_n C dX9_watch_12 rfl 13 rfl ?_
    refine j_zald C rfl (by omega) (by decide) dX9_watch_13 14 rfl ?_
    refine b_if_ne C 19 17 dX9_watch_14 (by decide) rfl (fun c_14 => ?_) (fun c_14 => ?_)
    · obtain ⟨w1, hwl, w3, w4, w5, w6, w7⟩ := WI w hw c_14
      have hk := H.2.2 (wl w) hwl
      have partC : ∀ (W : gl_Mp) (I2 : Nat → Nat → Int32), W = gl_wrd (gl_wok2 (fun i => B 4 (400 * wl w + i)) (fun i => I 2 (400 * wl w + i)) (I 16 (5 * w + 1)) (I 16 (5 * w + 2))) (fun i => I 2 (400 * wl w + i)) (mn (wl w) - wg w) (wg w) (ws w) → W.length ≤ mn (wl w) → gl_fq [16, 18, 19, 39, 40, 47, 48, 49, 50] [57] I I2 → I2 16 = va_up (va_up (I 16) (5 * w + 4) (nI W.length)) (5 * w + 3) (nI (mn (wl w))) → gl_wm2 (I2 18) (I2 19) w W → (∀ k, k < 400 * w ∨ 400 * w + 400 ≤ k → I2 18 k = I 18 k ∧ I2 19 k = I 19 k) → ∀ x3 x4 x5 : Option Value, gl_J κ 0 0 (gl_mL, I2, L, B, gl_mR) 231 [some (.ref 0), some (.int (nI w)), some (.int (nI (wl w))), x3, x4, x5] [] := by
        intro W I2 hWd hWl hf a16 hW2 hO2 x3 x4 x5
        refine j_aload_n C dX9_watch_231 rfl 232 rfl ?_
        refine j_iload_n C dX9_watch_232 rfl 233 rfl ?_
        refine j_aload_n C dX9_watch_233 rfl 234 rfl ?_
        refine j_iload_n C dX9_watch_234 rfl 235 rfl ?_
        refine j_ci C (cs_X9_274 C (ct_X9_many (h - 1) (by omega) (by omega)) rfl rfl (by omega) (by omega) (by omega) rfl (Nat.le_of_ble_eq_true rfl) dX9_watch_235) 238 rfl ?_
        rintro _ _ ⟨rfl, rfl⟩
        rw [hf.1 1 (by decide) (by decide), hk.1]
        refine j_cv C (cs_X9_260 C (ct_X9_map (I := I2) (n := mn (wl w)) (wn := hd (wl w) + ld (wl w)) (sn := sn (wl w)) (h - 1) (by omega) (by omega) hk.2.1 (by rw [hf.1 1 (by decide) (by decide)]; exact H.w hwl) hk.2.2.2.2.1 (fun w hw => by rw [hf.1 7 (by decide) (by decide)]; exact (hk.2.2.2.2.2 w hw).1) (fun w hw => by have := (hk.2.2.2.2.2 w hw).2; omega)) rfl rfl (by omega) (by omega) (by omega) rfl (Nat.le_of_ble_eq_true rfl) dX9_watch_238) 241 rfl ?_
        rintro _ ⟨I3, rfl, f3, m3⟩
        rw [hf.1 6 (by decide) (by decide), hf.1 2 (by decide) (by decide)] at m3
        change gl_MP I3 (gl_lmap I B hd ld sn (wl w) (mn (wl w))) at m3
        have ml3 : (gl_lmap I B hd ld sn (wl w) (mn (wl w))).length ≤ mn (wl w) := gl_map_len _
        refine j_iconst (v := nI 0) C dX9_watch_241 (by decide) 242 rfl ?_
        refine j_istore_n C dX9_watch_242 (Nat.le_of_ble_eq_true rfl) (by rw [hnL]; decide) rfl 243 rfl ?_
        refine j_iconst (v := nI 0) C dX9_watch_243 (by decide) 244 rfl ?_
        refine j_istore C dX9_watch_244 (Nat.le_of_ble_eq_true rfl) (by rw [hnL]; decide) rfl 246 rfl ?_
        have loopC : ∀ k j : Nat, j + k = W.length → ∀ x5 : Option Value, gl_J κ 0 0 (gl_mL, I3, L, B, gl_mR) 246 [some (.ref 0), some (.int (nI w)), some (.int (nI (wl w))), some (.int (nI (gl_wct (gl_lmap I B hd ld sn (wl w) (mn (wl w))) W j))), some (.int (nI j)), x5] [] := by
          intro k
          induction k with
          | zero =>
            intro j hj x5
            have hjN : j = W.length := by omega
            subst hjN
            refine j_iload C dX9_watch_246 rfl 248 rfl ?_
            refine j_aload_n C dX9_watch_248 rfl 249 rfl ?_
            refine gf_X9_58 C rfl rfl dX9_watch_249 252 rfl ?_
            refine j_iconst (v := nI 5) C dX9_watch_252 (by decide) 253 rfl ?_
            refine j_iload_n C dX9_watch_253 rfl 254 rfl ?_
            refine n_imul C dX9_watch_254 255 rfl ?_
            refine j_iconst (v := nI 4) C dX9_watch_255 (by decide) 256 rfl ?_
            refine n_iadd C dX9_watch_256 257 rfl ?_
            refine j_iald C rfl (by omega) (by decide) dX9_watch_257 258 rfl ?_
            rw [f3.1 16 (by decide) (by decide), a16, gl_up_ne (show 5 * w + 4 ≠ 5 * w + 3 by omega), gl_up_eq]
            refine n_icmp_ge C 318 261 dX9_watch_258 (by decide) rfl (by omega) (by omega) (fun c_258 => ?_) (fun c_258 => ?_)
            · refine j_iload_n C dX9_watch_318 rfl 319 rfl ?_
              exact j_iret C hQ (by rw [gl_watch, if_pos ⟨c_5, by rw [hca]; exact c_14⟩, hca]; exact ⟨_, W, hWd, rfl, rfl, hf.tr (f3.mo (by decide) (by decide)), by rw [f3.1 16 (by decide) (by decide), a16], hWl, by rw [f3.1 18 (by decide) (by decide), f3.1 19 (by decide) (by decide)]; exact hW2, fun k hk => by rw [f3.1 18 (by decide) (by decide), f3.1 19 (by decide) (by decide)]; exact hO2 k hk⟩) (by omega) (by omega) dX9_watch_319
            · exact absurd c_258 (by omega)
          | succ k ih =>
            intro j hj x5
            refine j_iload C dX9_watch_246 rfl 248 rfl ?_
            refine j_aload_n C dX9_watch_248 rfl 249 rfl ?_
            refine gf_X9_58 C rfl rfl dX9_watch_249 252 rfl ?_
            refine j_iconst (v := nI 5) C dX9_watch_252 (by decide) 253 rfl ?_
            refine j_iload_n C dX9_watch_253 rfl 254 rfl ?_
            refine n_imul C dX9_watch_254 255 rfl ?_
            refine j_iconst (v := nI 4) C dX9_watch_255 (by decide) 256 rfl ?_
            refine n_iadd C dX9_watch_256 257 rfl ?_
            refine j_iald C rfl (by omega) (by decide) dX9_watch_257 258 rfl ?_
            rw [f3.1 16 (by decide) (by decide), a16, gl_up_ne (show 5 * w + 4 ≠ 5 * w + 3 by omega), gl_up_eq]
            refine n_icmp_ge C 318 261 dX9_watch_258 (by decide) rfl (by omega) (by omega) (fun c_258 => ?_) (fun c_258 => ?_)
            · exact absurd c_258 (by omega)
            · refine j_aload_n C dX9_watch_261 rfl 262 rfl ?_
              refine j_aload_n C dX9_watch_262 rfl 263 rfl ?_
              refine gf_X9_64 C rfl rfl dX9_watch_263 266 rfl ?_
              refine j_sipush (v := nI 400) C dX9_watch_266 (by decide) 269 rfl ?_
              refine j_iload_n C dX9_watch_269 rfl 270 rfl ?_
              refine n_imul C dX9_watch_270 271 rfl ?_
              refine j_iload C dX9_watch_271 rfl 273 rfl ?_
              refine n_iadd C dX9_watch_273 274 rfl ?_
              refine j_iald C rfl (by omega) (by decide) dX9_watch_274 275 rfl ?_
              rw [f3.1 18 (by decide) (by decide), (hW2 j (by omega)).1]
              refine j_ci C (cs_X9_230 C (ct_X9_find (n := (gl_lmap I B hd ld sn (wl w) (mn (wl w))).length) (h - 1) (by omega) m3.1.1 (by omega)) rfl rfl (by omega) (by omega) (by omega) rfl (Nat.le_of_ble_eq_true rfl) dX9_watch_275) 278 rfl ?_
              rintro _ _ ⟨rfl, rfl⟩
              rw [gl_fd, gl_mm_fk m3.1]
              have hat4 := (hW2 j (by omega)).2.2
              by_cases hin : gl_fk (gl_lmap I B hd ld sn (wl w) (mn (wl w))) (gl_at W j).1 < (gl_lmap I B hd ld sn (wl w) (mn (wl w))).length
              · rw [if_pos hin]
                have hlb : (gl_at (gl_lmap I B hd ld sn (wl w) (mn (wl w))) (gl_fk (gl_lmap I B hd ld sn (wl w) (mn (wl w))) (gl_at W j).1)).2 < mn (wl w) := gl_lmb (cn := gl_lcn I B hd ld sn (wl w) (mn (wl w))) (K := fun i => I 2 (400 * wl w + i)) (mn (wl w)) _ hin
                refine j_istore C dX9_watch_278 (Nat.le_of_ble_eq_true rfl) (by rw [hnL]; decide) rfl 280 rfl ?_
                refine j_iload C dX9_watch_280 rfl 282 rfl ?_
                refine j_iconst (v := -1) C dX9_watch_282 (by decide) 283 rfl ?_
                refine j_icmp_eq C 309 286 dX9_watch_283 (by decide) rfl (fun c_283 => ?_) (fun c_283 => ?_)
                · exact absurd c_283 (gl_nm1 (by omega))
                · refine j_aload_n C dX9_watch_286 rfl 287 rfl ?_
                  refine gf_X9_154 C rfl rfl dX9_watch_287 290 rfl ?_
                  refine j_iload C dX9_watch_290 rfl 292 rfl ?_
                  refine j_iald C rfl (by omega) (by decide) dX9_watch_292 293 rfl ?_
                  rw [(m3.1.2 _ hin).2]
                  refine j_aload_n C dX9_watch_293 rfl 294 rfl ?_
                  refine gf_X9_67 C rfl rfl dX9_watch_294 297 rfl ?_
                  refine j_sipush (v := nI 400) C dX9_watch_297 (by decide) 300 rfl ?_
                  refine j_iload_n C dX9_watch_300 rfl 301 rfl ?_
                  refine n_imul C dX9_watch_301 302 rfl ?_
                  refine j_iload C dX9_watch_302 rfl 304 rfl ?_
                  refine n_iadd C dX9_watch_304 305 rfl ?_
                  refine j_iald C rfl (by omega) (by decide) dX9_watch_305 306 rfl ?_
                  rw [f3.1 19 (by decide) (by decide), (hW2 j (by omega)).2.1]
                  refine n_icmp_eq C 312 309 dX9_watch_306 (by decide) rfl (by omega) (by omega) (fun c_306 => ?_) (fun c_306 => ?_)
                  · refine n_iinc C dX9_watch_312 rfl (by rw [hnL]; decide) rfl 315 rfl ?_
                    refine j_goto (tgt := 246) C dX9_watch_315 (by decide) ?_
                    have e : gl_wct (gl_lmap I B hd ld sn (wl w) (mn (wl w))) W (j + 1) = gl_wct (gl_lmap I B hd ld sn (wl w) (mn (wl w))) W j := if_pos ⟨hin, c_306⟩
                    rw [← e]
                    exact ih (j + 1) (by omega) _
                  · refine n_iinc C dX9_watch_309 rfl (by rw [hnL]; decide) rfl 312 rfl ?_
                    refine n_iinc C dX9_watch_312 rfl (by rw [hnL]; decide) rfl 315 rfl ?_
                    refine j_goto (tgt := 246) C dX9_watch_315 (by decide) ?_
                    have e : gl_wct (gl_lmap I B hd ld sn (wl w) (mn (wl w))) W (j + 1) = gl_wct (gl_lmap I B hd ld sn (wl w) (mn (wl w))) W j + 1 := if_neg (fun q => c_306 q.2)
                    rw [← e]
                    exact ih (j + 1) (by omega) _
              · rw [if_neg hin]
                refine j_istore C dX9_watch_278 (Nat.le_of_ble_eq_true rfl) (by rw [hnL]; decide) rfl 280 rfl ?_
                refine j_iload C dX9_watch_280 rfl 282 rfl ?_
                refine j_iconst (v := -1) C dX9_watch_282 (by decide) 283 rfl ?_
                refine j_icmp_eq C 309 286 dX9_watch_283 (by decide) rfl (fun c_283 => ?_) (fun c_283 => ?_)
                · refine n_iinc C dX9_watch_309 rfl (by rw [hnL]; decide) rfl 312 rfl ?_
                  refine n_iinc C dX9_watch_312 rfl (by rw [hnL]; decide) rfl 315 rfl ?_
                  refine j_goto (tgt := 246) C dX9_watch_315 (by decide) ?_
                  have e : gl_wct (gl_lmap I B hd ld sn (wl w) (mn (wl w))) W (j + 1) = gl_wct (gl_lmap I B hd ld sn (wl w) (mn (wl w))) W j + 1 := if_neg (fun q => hin q.1)
                  rw [← e]
                  exact ih (j + 1) (by omega) _
                · exact absurd rfl c_283
        exact loopC W.length 0 (by omega) _
      have loopA : ∀ (c i : Nat) (m : gl_Mp) (I1 : Nat → Nat → Int32), i + c = mn (wl w) → gl_fq [16, 18, 19, 39, 40, 47, 48, 49, 50] [57] I I1 → I1 16 = va_up (I 16) (5 * w + 4) (nI m.length) → gl_wm2 (I1 18) (I1 19) w m → (∀ k, k < 400 * w ∨ 400 * w + 400 ≤ k → I1 18 k = I 18 k ∧ I1 19 k = I 19 k) → m.length ≤ i → gl_wrd (gl_wok2 (fun i => B 4 (400 * wl w + i)) (fun i => I 2 (400 * wl w + i)) (I 16 (5 * w + 1)) (I 16 (5 * w + 2))) (fun i => I 2 (400 * wl w + i)) c i m = gl_wrd (gl_wok2 (fun i => B 4 (400 * wl w + i)) (fun i => I 2 (400 * wl w + i)) (I 16 (5 * w + 1)) (I 16 (5 * w + 2))) (fun i => I 2 (400 * wl w + i)) (mn (wl w) - wg w) (wg w) (ws w) → ∀ x4 x5 : Option Value, gl_J κ 0 0 (gl_mL, I1, L, B, gl_mR) 39 [some (.ref 0), some (.int (nI w)), some (.int (nI (wl w))), some (.int (nI i)), x4, x5] [] := by
        intro c
        induction c with
        | zero =>
          intro i m I1 hic hf a16 hwm ho hmi htg x4 x5
          have hiN : i = mn (wl w) := by omega
          subst hiN
          change m = _ at htg
          refine j_iload_n C dX9_watch_39 rfl 40 rfl ?_
          refine j_aload_n C dX9_watch_40 rfl 41 rfl ?_
          refine j_iload_n C dX9_watch_41 rfl 42 rfl ?_
          refine j_ci C (cs_X9_274 C (ct_X9_many (h - 1) (by omega) (by omega)) rfl rfl (by omega) (by omega) (by omega) rfl (Nat.le_of_ble_eq_true rfl) dX9_watch_42) 45 rfl ?_
          rintro _ _ ⟨rfl, rfl⟩
          rw [hf.1 1 (by decide) (by decide), hk.1]
          refine n_icmp_ge C 216 48 dX9_watch_45 (by decide) rfl (by omega) (by omega) (fun c_45 => ?_) (fun c_45 => ?_)
          · refine j_aload_n C dX9_watch_216 rfl 217 rfl ?_
            refine gf_X9_58 C rfl rfl dX9_watch_217 220 rfl ?_
            refine j_iconst (v := nI 5) C dX9_watch_220 (by decide) 221 rfl ?_
            refine j_iload_n C dX9_watch_221 rfl 222 rfl ?_
            refine n_imul C dX9_watch_222 223 rfl ?_
            refine j_iconst (v := nI 3) C dX9_watch_223 (by decide) 224 rfl ?_
            refine n_iadd C dX9_watch_224 225 rfl ?_
            refine j_aload_n C dX9_watch_225 rfl 226 rfl ?_
            refine j_iload_n C dX9_watch_226 rfl 227 rfl ?_
            refine j_ci C (cs_X9_274 C (ct_X9_many (h - 1) (by omega) (by omega)) rfl rfl (by omega) (by omega) (by omega) rfl (Nat.le_of_ble_eq_true rfl) dX9_watch_227) 230 rfl ?_
            rintro _ _ ⟨rfl, rfl⟩
            rw [hf.1 1 (by decide) (by decide), hk.1]
            refine j_iast C rfl (by omega) (by decide) dX9_watch_230 231 rfl ?_
            exact partC m _ htg (by omega) (hf.u2 (by decide) (by decide)) (by rw [gl_u2_eq, a16]) (by rw [gl_u2_ne (show (18 : Nat) ≠ 16 by decide), gl_u2_ne (show (19 : Nat) ≠ 16 by decide)]; exact hwm) (fun k hk => by rw [gl_u2_ne (show (18 : Nat) ≠ 16 by decide), gl_u2_ne (show (19 : Nat) ≠ 16 by decide)]; exact ho k hk) _ _ _
          · exact absurd c_45 (by omega)
        | succ c ih =>
          intro i m I1 hic hf a16 hwm ho hmi htg x4 x5
          refine j_iload_n C dX9_watch_39 rfl 40 rfl ?_
          refine j_aload_n C dX9_watch_40 rfl 41 rfl ?_
          refine j_iload_n C dX9_watch_41 rfl 42 rfl ?_
          refine j_ci C (cs_X9_274 C (ct_X9_many (h - 1) (by omega) (by omega)) rfl rfl (by omega) (by omega) (by omega) rfl (Nat.le_of_ble_eq_true rfl) dX9_watch_42) 45 rfl ?_
          rintro _ _ ⟨rfl, rfl⟩
          rw [hf.1 1 (by decide) (by decide), hk.1]
          refine n_icmp_ge C 216 48 dX9_watch_45 (by decide) rfl (by omega) (by omega) (fun c_45 => ?_) (fun c_45 => ?_)
          · exact absurd c_45 (by omega)
          · refine j_aload_n C dX9_watch_48 rfl 49 rfl ?_
            refine gf_X9_13 C rfl rfl dX9_watch_49 52 rfl ?_
            refine j_sipush (v := nI 400) C dX9_watch_52 (by decide) 55 rfl ?_
            refine j_iload_n C dX9_watch_55 rfl 56 rfl ?_
            refine n_imul C dX9_watch_56 57 rfl ?_
            refine j_iload_n C dX9_watch_57 rfl 58 rfl ?_
            refine n_iadd C dX9_watch_58 59 rfl ?_
            refine j_iald C rfl (by omega) (by decide) dX9_watch_59 60 rfl ?_
            rw [hf.1 2 (by decide) (by decide)]
            refine j_istore C dX9_watch_60 (Nat.le_of_ble_eq_true rfl) (by rw [hnL]; decide) rfl 62 rfl ?_
            refine j_aload_n C dX9_watch_62 rfl 63 rfl ?_
            refine gf_X9_20 C rfl rfl dX9_watch_63 66 rfl ?_
            refine j_sipush (v := nI 400) C dX9_watch_66 (by decide) 69 rfl ?_
            refine j_iload_n C dX9_watch_69 rfl 70 rfl ?_
            refine n_imul C dX9_watch_70 71 rfl ?_
            refine j_iload_n C dX9_watch_71 rfl 72 rfl ?_
            refine n_iadd C dX9_watch_72 73 rfl ?_
            refine j_zald C rfl (by omega) (by decide) dX9_watch_73 74 rfl ?_
            refine b_if_ne C 210 77 dX9_watch_74 (by decide) rfl (fun c_74 => ?_) (fun c_74 => ?_)
            · refine n_iinc C dX9_watch_210 rfl (by rw [hnL]; decide) rfl 213 rfl ?_
              refine j_goto (tgt := 39) C dX9_watch_213 (by decide) ?_
              have hok : (gl_wok2 (fun i => B 4 (400 * wl w + i)) (fun i => I 2 (400 * wl w + i)) (I 16 (5 * w + 1)) (I 16 (5 * w + 2))) i = false := by show (!B 4 (400 * wl w + i) && _) = false; rw [c_74]; rfl
              refine ih (i + 1) m I1 (by omega) hf a16 hwm ho (by omega) ?_ _ _
              rw [← htg, gl_wrd, if_neg (by rw [hok]; decide)]
            · refine j_iload C dX9_watch_77 rfl 79 rfl ?_
              refine j_aload_n C dX9_watch_79 rfl 80 rfl ?_
              refine gf_X9_58 C rfl rfl dX9_watch_80 83 rfl ?_
              refine j_iconst (v := nI 5) C dX9_watch_83 (by decide) 84 rfl ?_
              refine j_iload_n C dX9_watch_84 rfl 85 rfl ?_
              refine n_imul C dX9_watch_85 86 rfl ?_
              refine j_iconst (v := nI 1) C dX9_watch_86 (by decide) 87 rfl ?_
              refine n_iadd C dX9_watch_87 88 rfl ?_
              refine j_iald C rfl (by omega) (by decide) dX9_watch_88 89 rfl ?_
              rw [a16, gl_up_ne (show 5 * w + 1 ≠ 5 * w + 4 by omega)]
              refine j_icmp_lt C 210 92 dX9_watch_89 (by decide) rfl (fun c_89 => ?_) (fun c_89 => ?_)
              · refine n_iinc C dX9_watch_210 rfl (by rw [hnL]; decide) rfl 213 rfl ?_
                refine j_goto (tgt := 39) C dX9_watch_213 (by decide) ?_
                have hok : (gl_wok2 (fun i => B 4 (400 * wl w + i)) (fun i => I 2 (400 * wl w + i)) (I 16 (5 * w + 1)) (I 16 (5 * w + 2))) i = false := by show (_ && (decide (¬ I 2 (400 * wl w + i) < _) && _)) = false; rw [decide_eq_false (fun q => q c_89), Bool.false_and, Bool.and_false]
                refine ih (i + 1) m I1 (by omega) hf a16 hwm ho (by omega) ?_ _ _
                rw [← htg, gl_wrd, if_neg (by rw [hok]; decide)]
              · refine j_iload C dX9_watch_92 rfl 94 rfl ?_
                refine j_aload_n C dX9_watch_94 rfl 95 rfl ?_
                refine gf_X9_58 C rfl rfl dX9_watch_95 98 rfl ?_
                refine j_iconst (v := nI 5) C dX9_watch_98 (by decide) 99 rfl ?_
                refine j_iload_n C dX9_watch_99 rfl 100 rfl ?_
                refine n_imul C dX9_watch_100 101 rfl ?_
                refine j_iconst (v := nI 2) C dX9_watch_101 (by decide) 102 rfl ?_
                refine n_iadd C dX9_watch_102 103 rfl ?_
                refine j_iald C rfl (by omega) (by decide) dX9_watch_103 104 rfl ?_
                rw [a16, gl_up_ne (show 5 * w + 2 ≠ 5 * w + 4 by omega)]
                refine j_icmp_le C 110 107 dX9_watch_104 (by decide) rfl (fun c_104 => ?_) (fun c_104 => ?_)
                · have hok : (gl_wok2 (fun i => B 4 (400 * wl w + i)) (fun i => I 2 (400 * wl w + i)) (I 16 (5 * w + 1)) (I 16 (5 * w + 2))) i = true := by show (!B 4 (400 * wl w + i) && (decide (¬ I 2 (400 * wl w + i) < _) && decide (I 2 (400 * wl w + i) ≤ _))) = true; rw [c_74, decide_eq_true c_89, decide_eq_true c_104]; rfl
                  have hfkl : gl_fk m (I 2 (400 * wl w + i)) ≤ m.length := by have := gl_ff_le (f := fun t => (gl_at m t).1) (key := (I 2 (400 * wl w + i))) m.length 0; unfold gl_fk; omega
                  have at152 : gl_J κ 0 0 (gl_mL, I1, L, B, gl_mR) 152 [some (.ref 0), some (.int (nI w)), some (.int (nI (wl w))), some (.int (nI i)), some (.int (I 2 (400 * wl w + i))), some (.int (nI (gl_fk m (I 2 (400 * wl w + i)))))] [] := by
                    refine j_iload C dX9_watch_152 rfl 154 rfl ?_
                    refine j_aload_n C dX9_watch_154 rfl 155 rfl ?_
                    refine gf_X9_58 C rfl rfl dX9_watch_155 158 rfl ?_
                    refine j_iconst (v := nI 5) C dX9_watch_158 (by decide) 159 rfl ?_
                    refine j_iload_n C dX9_watch_159 rfl 160 rfl ?_
                    refine n_imul C dX9_watch_160 161 rfl ?_
                    refine j_iconst (v := nI 4) C dX9_watch_161 (by decide) 162 rfl ?_
                    refine n_iadd C dX9_watch_162 163 rfl ?_
                    refine j_iald C rfl (by omega) (by decide) dX9_watch_163 164 rfl ?_
                    rw [a16, gl_up_eq]
                    refine n_icmp_ne C 196 167 dX9_watch_164 (by decide) rfl (by omega) (by omega) (fun c_164 => ?_) (fun c_164 => ?_)
                    · refine j_aload_n C dX9_watch_196 rfl 197 rfl ?_
                      refine gf_X9_67 C rfl rfl dX9_watch_197 200 rfl ?_
                      refine j_sipush (v := nI 400) C dX9_watch_200 (by decide) 203 rfl ?_
                      refine j_iload_n C dX9_watch_203 rfl 204 rfl ?_
                      refine n_imul C dX9_watch_204 205 rfl ?_
                      refine j_iload C dX9_watch_205 rfl 207 rfl ?_
                      refine n_iadd C dX9_watch_207 208 rfl ?_
                      refine j_iload_n C dX9_watch_208 rfl 209 rfl ?_
                      refine j_iast C rfl (by omega) (by decide) dX9_watch_209 210 rfl ?_
                      refine n_iinc C dX9_watch_210 rfl (by rw [hnL]; decide) rfl 213 rfl ?_
                      refine j_goto (tgt := 39) C dX9_watch_213 (by decide) ?_
                      have hlt : gl_fk m (I 2 (400 * wl w + i)) < m.length := by omega
                      have hml : (gl_mi m (I 2 (400 * wl w + i)) i).length = m.length := by unfold gl_mi; rw [if_pos hlt, List.length_set]
                      have hm2 := gl_mi_wm2 (i := i) (ky := I 2 (400 * wl w + i)) hwm (by omega)
                      rw [if_pos hlt] at hm2
                      refine ih (i + 1) (gl_mi m (I 2 (400 * wl w + i)) i) _ (by omega) (hf.u2 (by decide) (by decide)) ?_ ?_ ?_ ?_ ?_ _ _
                      · rw [gl_u2_ne (show (16 : Nat) ≠ 19 by decide), hml]; exact a16
                      · rw [gl_u2_ne (show (18 : Nat) ≠ 19 by decide), gl_u2_eq]; exact hm2
                      · intro k hk
                        rw [gl_u2_ne (show (18 : Nat) ≠ 19 by decide), gl_u2_eq, gl_up_ne (by omega)]; exact ho k hk
                      · have := gl_mi_len (m := m) (ky := I 2 (400 * wl w + i)) (i := i); omega
                      · rw [← htg, gl_wrd, if_pos hok]
                    · refine j_aload_n C dX9_watch_167 rfl 168 rfl ?_
                      refine gf_X9_64 C rfl rfl dX9_watch_168 171 rfl ?_
                      refine j_sipush (v := nI 400) C dX9_watch_171 (by decide) 174 rfl ?_
                      refine j_iload_n C dX9_watch_174 rfl 175 rfl ?_
                      refine n_imul C dX9_watch_175 176 rfl ?_
                      refine j_iload C dX9_watch_176 rfl 178 rfl ?_
                      refine n_iadd C dX9_watch_178 179 rfl ?_
                      refine j_iload C dX9_watch_179 rfl 181 rfl ?_
                      refine j_iast C rfl (by omega) (by decide) dX9_watch_181 182 rfl ?_
                      refine j_aload_n C dX9_watch_182 rfl 183 rfl ?_
                      refine gf_X9_58 C rfl rfl dX9_watch_183 186 rfl ?_
                      refine j_iconst (v := nI 5) C dX9_watch_186 (by decide) 187 rfl ?_
                      refine j_iload_n C dX9_watch_187 rfl 188 rfl ?_
                      refine n_imul C dX9_watch_188 189 rfl ?_
                      refine j_iconst (v := nI 4) C dX9_watch_189 (by decide) 190 rfl ?_
                      refine n_iadd C dX9_watch_190 191 rfl ?_
                      refine j_dup2 C dX9_watch_191 rfl rfl 192 rfl ?_
                      refine j_iald C rfl (by omega) (by decide) dX9_watch_192 193 rfl ?_
                      rw [gl_u2_ne (show (16 : Nat) ≠ 18 by decide), a16, gl_up_eq]
                      refine j_iconst (v := nI 1) C dX9_watch_193 (by decide) 194 rfl ?_
                      refine n_iadd C dX9_watch_194 195 rfl ?_
                      refine j_iast C rfl (by omega) (by decide) dX9_watch_195 196 rfl ?_
                      refine j_aload_n C dX9_watch_196 rfl 197 rfl ?_
                      refine gf_X9_67 C rfl rfl dX9_watch_197 200 rfl ?_
                      refine j_sipush (v := nI 400) C dX9_watch_200 (by decide) 203 rfl ?_
                      refine j_iload_n C dX9_watch_203 rfl 204 rfl ?_
                      refine n_imul C dX9_watch_204 205 rfl ?_
                      refine j_iload C dX9_watch_205 rfl 207 rfl ?_
                      refine n_iadd C dX9_watch_207 208 rfl ?_
                      refine j_iload_n C dX9_watch_208 rfl 209 rfl ?_
                      refine j_iast C rfl (by omega) (by decide) dX9_watch_209 210 rfl ?_
                      refine n_iinc C dX9_watch_210 rfl (by rw [hnL]; decide) rfl 213 rfl ?_
                      refine j_goto (tgt := 39) C dX9_watch_213 (by decide) ?_
                      have hlt : ¬ gl_fk m (I 2 (400 * wl w + i)) < m.length := by omega
                      have hml : (gl_mi m (I 2 (400 * wl w + i)) i).length = m.length + 1 := by unfold gl_mi; rw [if_neg hlt, List.length_append]; rfl
                      have hm2 := gl_mi_wm2 (i := i) (ky := I 2 (400 * wl w + i)) hwm (by omega)
                      rw [if_neg hlt] at hm2
                      refine ih (i + 1) (gl_mi m (I 2 (400 * wl w + i)) i) _ (by omega) (((hf.u2 (by decide) (by decide)).u2 (by decide) (by decide)).u2 (by decide) (by decide)) ?_ ?_ ?_ ?_ ?_ _ _
                      · rw [gl_u2_ne (show (16 : Nat) ≠ 19 by decide), gl_u2_eq, gl_u2_ne (show (16 : Nat) ≠ 18 by decide), a16, gl_up_up, hml]
                      · rw [gl_u2_ne (show (18 : Nat) ≠ 19 by decide), gl_u2_ne (show (18 : Nat) ≠ 16 by decide), gl_u2_eq, gl_u2_eq, gl_u2_ne (show (19 : Nat) ≠ 16 by decide), gl_u2_ne (show (19 : Nat) ≠ 18 by decide)]; exact hm2
                      · intro k hk
                        rw [gl_u2_ne (show (18 : Nat) ≠ 19 by decide), gl_u2_ne (show (18 : Nat) ≠ 16 by decide), gl_u2_eq, gl_u2_eq, gl_u2_ne (show (19 : Nat) ≠ 16 by decide), gl_u2_ne (show (19 : Nat) ≠ 18 by decide), gl_up_ne (by omega), gl_up_ne (by omega)]; exact ho k hk
                      · have := gl_mi_len (m := m) (ky := I 2 (400 * wl w + i)) (i := i); omega
                      · rw [← htg, gl_wrd, if_pos hok]
                  have inner : ∀ (c k : Nat), k + c = m.length → gl_ff (fun t => (gl_at m t).1) (I 2 (400 * wl w + i)) c k = gl_fk m (I 2 (400 * wl w + i)) → gl_J κ 0 0 (gl_mL, I1, L, B, gl_mR) 113 [some (.ref 0), some (.int (nI w)), some (.int (nI (wl w))), some (.int (nI i)), some (.int (I 2 (400 * wl w + i))), some (.int (nI k))] [] := by
                    intro c
                    induction c with
                    | zero =>
                      intro k hkc hff
                      have hkN : k = m.length := by omega
                      subst hkN
                      refine j_iload C dX9_watch_113 rfl 115 rfl ?_
                      refine j_aload_n C dX9_watch_115 rfl 116 rfl ?_
                      refine gf_X9_58 C rfl rfl dX9_watch_116 119 rfl ?_
                      refine j_iconst (v := nI 5) C dX9_watch_119 (by decide) 120 rfl ?_
                      refine j_iload_n C dX9_watch_120 rfl 121 rfl ?_
                      refine n_imul C dX9_watch_121 122 rfl ?_
                      refine j_iconst (v := nI 4) C dX9_watch_122 (by decide) 123 rfl ?_
                      refine n_iadd C dX9_watch_123 124 rfl ?_
                      refine j_iald C rfl (by omega) (by decide) dX9_watch_124 125 rfl ?_
                      rw [a16, gl_up_eq]
                      refine n_icmp_ge C 152 128 dX9_watch_125 (by decide) rfl (by omega) (by omega) (fun c_125 => ?_) (fun c_125 => ?_)
                      · have e : gl_fk m (I 2 (400 * wl w + i)) = m.length := hff.symm
                        rw [e] at at152
                        exact at152
                      · exact absurd c_125 (by omega)
                    | succ c ihk =>
                      intro k hkc hff
                      refine j_iload C dX9_watch_113 rfl 115 rfl ?_
                      refine j_aload_n C dX9_watch_115 rfl 116 rfl ?_
                      refine gf_X9_58 C rfl rfl dX9_watch_116 119 rfl ?_
                      refine j_iconst (v := nI 5) C dX9_watch_119 (by decide) 120 rfl ?_
                      refine j_iload_n C dX9_watch_120 rfl 121 rfl ?_
                      refine n_imul C dX9_watch_121 122 rfl ?_
                      refine j_iconst (v := nI 4) C dX9_watch_122 (by decide) 123 rfl ?_
                      refine n_iadd C dX9_watch_123 124 rfl ?_
                      refine j_iald C rfl (by omega) (by decide) dX9_watch_124 125 rfl ?_
                      rw [a16, gl_up_eq]
                      refine n_icmp_ge C 152 128 dX9_watch_125 (by decide) rfl (by omega) (by omega) (fun c_125 => ?_) (fun c_125 => ?_)
                      · exact absurd c_125 (by omega)
                      · refine j_aload_n C dX9_watch_128 rfl 129 rfl ?_
                        refine gf_X9_64 C rfl rfl dX9_watch_129 132 rfl ?_
                        refine j_sipush (v := nI 400) C dX9_watch_132 (by decide) 135 rfl ?_
                        refine j_iload_n C dX9_watch_135 rfl 136 rfl ?_
                        refine n_imul C dX9_watch_136 137 rfl ?_
                        refine j_iload C dX9_watch_137 rfl 139 rfl ?_
                        refine n_iadd C dX9_watch_139 140 rfl ?_
                        refine j_iald C rfl (by omega) (by decide) dX9_watch_140 141 rfl ?_
                        rw [(hwm k (by omega)).1]
                        refine j_iload C dX9_watch_141 rfl 143 rfl ?_
                        refine j_icmp_eq C 152 146 dX9_watch_143 (by decide) rfl (fun c_143 => ?_) (fun c_143 => ?_)
                        · have e : gl_fk m (I 2 (400 * wl w + i)) = k := by rw [← hff, gl_ff, if_pos c_143]
                          rw [e] at at152
                          exact at152
                        · refine n_iinc C dX9_watch_146 rfl (by rw [hnL]; decide) rfl 149 rfl ?_
                          refine j_goto (tgt := 113) C dX9_watch_149 (by decide) ?_
                          exact ihk (k + 1) (by omega) (by rw [← hff, gl_ff, if_neg c_143])
                  refine j_iconst (v := nI 0) C dX9_watch_110 (by decide) 111 rfl ?_
                  refine j_istore C dX9_watch_111 (Nat.le_of_ble_eq_true rfl) (by rw [hnL]; decide) rfl 113 rfl ?_
                  exact inner m.length 0 (by omega) rfl
                · refine j_goto (tgt := 210) C dX9_watch_107 (by decide) ?_
                  refine n_iinc C dX9_watch_210 rfl (by rw [hnL]; decide) rfl 213 rfl ?_
                  refine j_goto (tgt := 39) C dX9_watch_213 (by decide) ?_
                  have hok : (gl_wok2 (fun i => B 4 (400 * wl w + i)) (fun i => I 2 (400 * wl w + i)) (I 16 (5 * w + 1)) (I 16 (5 * w + 2))) i = false := by show (_ && (_ && decide (I 2 (400 * wl w + i) ≤ _))) = false; rw [decide_eq_false c_104, Bool.and_false, Bool.and_false]
                  refine ih (i + 1) m I1 (by omega) hf a16 hwm ho (by omega) ?_ _ _
                  rw [← htg, gl_wrd, if_neg (by rw [hok]; decide)]
      refine j_aload_n C dX9_watch_19 rfl 20 rfl ?_
      refine gf_X9_58 C rfl rfl dX9_watch_20 23 rfl ?_
      refine j_iconst (v := nI 5) C dX9_watch_23 (by decide) 24 rfl ?_
      refine j_iload_n C dX9_watch_24 rfl 25 rfl ?_
      refine n_imul C dX9_watch_25 26 rfl ?_
      refine j_iald C rfl (by omega) (by decide) dX9_watch_26 27 rfl ?_
      rw [w1]
      refine j_istore_n C dX9_watch_27 (Nat.le_of_ble_eq_true rfl) (by rw [hnL]; decide) rfl 28 rfl ?_
      refine j_aload_n C dX9_watch_28 rfl 29 rfl ?_
      refine gf_X9_58 C rfl rfl dX9_watch_29 32 rfl ?_
      refine j_iconst (v := nI 5) C dX9_watch_32 (by decide) 33 rfl ?_
      refine j_iload_n C dX9_watch_33 rfl 34 rfl ?_
      refine n_imul C dX9_watch_34 35 rfl ?_
      refine j_iconst (v := nI 3) C dX9_watch_35 (by decide) 36 rfl ?_
      refine n_iadd C dX9_watch_36 37 rfl ?_
      refine j_iald C rfl (by omega) (by decide) dX9_watch_37 38 rfl ?_
      rw [w3]
      refine j_istore_n C dX9_watch_38 (Nat.le_of_ble_eq_true rfl) (by rw [hnL]; decide) rfl 39 rfl ?_
      exact loopA (mn (wl w) - wg w) (wg w) (ws w) I (by omega) gl_fq.rf (by rw [← w5, gl_up_self]) w7 (fun _ _ => ⟨rfl, rfl⟩) w6 rfl _ _
    · refine j_iconst (v := -1) C dX9_watch_17 (by decide) 18 rfl ?_
      exact j_iret C hQ (by rw [gl_watch, if_neg (fun q => by rw [hca, c_14] at q; cases q.2)]; exact ⟨rfl, rfl⟩) (by omega) (by omega) dX9_watch_18
