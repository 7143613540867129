/-! MODULE Model, logs: fork (by gen59.py) -/
set_option maxRecDepth 100000
/-- those of a row that are ok, one behind the other -/
def gl_fwr {α : Type} (ok : Nat → Bool) (src dst : Nat → α) (base : Nat) : Nat → Nat → α
  | 0 => dst
  | j + 1 => if ok j = true then va_up (gl_fwr ok src dst base j) (base + gl_ct ok j) (src j) else gl_fwr ok src dst base j
theorem gl_ct_le {g : Nat → Bool} : ∀ j, gl_ct g j ≤ j
  | 0 => Nat.le_refl 0
  | j + 1 => by
    have := gl_ct_le (g := g) j
    unfold gl_ct
    by_cases h : g j = true
    · rw [if_pos h]; omega
    · rw [if_neg h]; omega
theorem gl_fwr_lo {α : Type} {ok : Nat → Bool} {src dst : Nat → α} {base : Nat} {k : Nat} (h : k < base) : ∀ j, gl_fwr ok src dst base j k = dst k
  | 0 => rfl
  | j + 1 => by
    unfold gl_fwr
    by_cases hq : ok j = true
    · rw [if_pos hq, gl_up_ne (by omega), gl_fwr_lo h j]
    · rw [if_neg hq, gl_fwr_lo h j]
theorem gl_fwr_t {α : Type} {ok : Nat → Bool} {src dst : Nat → α} {base j : Nat} (h : ok j = true) : gl_fwr ok src dst base (j + 1) = va_up (gl_fwr ok src dst base j) (base + gl_ct ok j) (src j) := if_pos h
theorem gl_fwr_f {α : Type} {ok : Nat → Bool} {src dst : Nat → α} {base j : Nat} (h : ok j = false) : gl_fwr ok src dst base (j + 1) = gl_fwr ok src dst base j := if_neg (by rw [h]; decide)
theorem gl_ct_t {ok : Nat → Bool} {j : Nat} (h : ok j = true) : gl_ct ok (j + 1) = gl_ct ok j + 1 := if_pos h
theorem gl_ct_f {ok : Nat → Bool} {j : Nat} (h : ok j = false) : gl_ct ok (j + 1) = gl_ct ok j := if_neg (by rw [h]; decide)
theorem gl_ct_and {f g : Nat → Bool} : ∀ j, gl_ct (fun k => f k && g k) j ≤ gl_ct f j
  | 0 => Nat.le_refl 0
  | j + 1 => by
    have := gl_ct_and (f := f) (g := g) j
    unfold gl_ct
    by_cases h : f j = true
    · rw [if_pos h]
      by_cases h2 : (f j && g j) = true
      · rw [if_pos h2]; omega
      · rw [if_neg h2]; omega
    · rw [if_neg h, if_neg (by simp [h])]; exact this
abbrev gl_fkok (sn : Nat → Nat → Nat) (lg n : Nat) : Nat → Bool := fun k => decide (sn lg k ≤ n)
abbrev gl_fkh (B : Nat → Nat → Bool) (sn : Nat → Nat → Nat) (lg n : Nat) : Nat → Bool := fun k => gl_fkok sn lg n k && B 8 (100 * lg + k)
def gl_fkR (f : Nat → Int32) (lg to n : Nat) : Nat → Int32 := va_up (va_up f (4 * to) (f (4 * lg))) (4 * to + 1) (nI n)
/-- a log forked -/
def gl_frP (I I' : Nat → Nat → Int32) (L L' : Nat → Nat → Int64) (B B' : Nat → Nat → Bool) (hd ld : Nat → Nat) (sn : Nat → Nat → Nat) (lg to n : Nat) : Prop := gl_fq [1, 2, 6, 7] [1] I I' ∧ gl_fg [3] L L' ∧ gl_fg [4, 5, 8] B B' ∧ I' 0 1 = nI (to + 1) ∧ I' 1 = va_up (va_up (gl_fkR (I 1) lg to n) (4 * to + 2) (nI (gl_ct (gl_fkh B sn lg n) (hd lg + ld lg)))) (4 * to + 3) (nI (gl_ct (gl_fkok sn lg n) (hd lg + ld lg) - gl_ct (gl_fkh B sn lg n) (hd lg + ld lg))) ∧ I' 2 = va_cpy (fun t => I 2 (400 * lg + t)) (I 2) 0 (400 * to) n ∧ L' 3 = va_cpy (fun t => L 3 (400 * lg + t)) (L 3) 0 (400 * to) n ∧ B' 4 = va_cpy (fun t => B 4 (400 * lg + t)) (B 4) 0 (400 * to) n ∧ B' 5 = va_cpy (fun t => B 5 (400 * lg + t)) (B 5) 0 (400 * to) n ∧ I' 6 = gl_fwr (gl_fkok sn lg n) (fun t => I 6 (100 * lg + t)) (I 6) (100 * to) (hd lg + ld lg) ∧ I' 7 = gl_fwr (gl_fkok sn lg n) (fun t => I 7 (100 * lg + t)) (I 7) (100 * to) (hd lg + ld lg) ∧ B' 8 = gl_fwr (gl_fkok sn lg n) (fun t => B 8 (100 * lg + t)) (B 8) (100 * to) (hd lg + ld lg)
def gl_fork (I : Nat → Nat → Int32) (L : Nat → Nat → Int64) (B : Nat → Nat → Bool) (lm : Nat) (hd ld : Nat → Nat) (sn : Nat → Nat → Nat) (x n r : Int32) (S : gl_Sto) : Prop := if gl_ic I lm x n = true ∧ lm ≠ 6 then (r = nI lm ∧ ∃ I' L' B', S = (gl_mL, I', L', B', gl_mR) ∧ gl_frP I I' L L' B B' hd ld sn x.toNatClampNeg lm n.toNatClampNeg) else (r = -1 ∧ S = (gl_mL, I, L, B, gl_mR))
theorem gl_c45 (q : Nat → Nat → Bool) (c5 : Nat → Bool) (v4 v5 : Bool) (i4 : Nat) : gl_u2 (gl_u2 (va_up q 5 c5) 4 i4 v4) 5 i4 v5 = va_up (va_up q 4 (va_up (q 4) i4 v4)) 5 (va_up c5 i4 v5) := by
  funext c
  by_cases h5 : c = 5
  · subst h5
    rw [gl_u2_eq, gl_u2_ne (show (5 : Nat) ≠ 4 by decide), gl_up_eq, gl_up_eq]
  · rw [gl_u2_ne h5, gl_up_ne h5]
    by_cases h4 : c = 4
    · subst h4
      rw [gl_u2_eq, gl_up_eq, gl_up_ne (show (4 : Nat) ≠ 5 by decide)]
    · rw [gl_u2_ne h4, gl_up_ne h5, gl_up_ne h4]
set_option maxHeartbeats 4000000 in
set_option maxRecDepth 100000 in
theorem ct_X9_fork {l : Launch} {δ : gl_Del} {I : Nat → Nat → Int32} {L : Nat → Nat → Int64} {B : Nat → Nat → Bool} {lm : Nat} {mn hd ld : Nat → Nat} {sn : Nat → Nat → Nat} {x n : Int32} (h : Nat) (hh : 3 ≤ h) (H : gl_LI I lm mn hd ld sn) : gl_Ct l δ yX9_fork (ws_ yX9_fork cX9_fork 9 ((some FieldType.int))) (gl_rm h 0 0) 0 0 [.ref 0, .int x, .int n] (gl_mL, I, L, B, gl_mR) (gl_Qi fun r S => gl_fork I L B lm hd ld sn x n r S) := by
  refine gl_of (by decide) (Nat.le_of_ble_eq_true rfl) rfl ?_
  intro κ C hQ hlκ hδκ hnL hini
  change gl_Cx κ RX9 _ _ _ at C
  have hlm6 : lm ≤ 6 := H.2.1
  refine j_aload_n C dX9_fork_0 rfl 1 rfl ?_
  refine j_iload_n C dX9_fork_1 rfl 2 rfl ?_
  refine j_iload_n C dX9_fork_2 rfl 3 rfl ?_
  refine j_ci C (cs_X9_277 C (ct_X9_isCount (h - 1) (by omega) H.1 H.2.1) rfl rfl (by omega) (by omega) (by omega) rfl (Nat.le_of_ble_eq_true rfl) dX9_fork_3) 6 rfl ?_
  rintro _ _ ⟨rfl, rfl⟩
  refine b_if_eq C 18 9 dX9_fork_6 (by decide) rfl (fun c_6 => ?_) (fun c_6 => ?_)
  · refine j_iconst (v := -1) C dX9_fork_18 (by decide) 19 rfl ?_
    exact j_iret C hQ (by rw [gl_fork, if_neg (fun q => by rw [c_6] at q; cases q.1)]; exact ⟨rfl, rfl⟩) (by omega) (by omega) dX9_fork_19
  · obtain ⟨lg, m, hlg, hm, rfl, rfl⟩ := (gl_ic_iff H).mp c_6
    have hk := H.2.2 lg hlg
    have hcl : (nI lg).toNatClampNeg = lg := nI_clamp (by omega)
    have hcm : (nI m).toNatClampNeg = m := nI_clamp (by omega)
    refine j_aload_n C dX9_fork_9 rfl 10 rfl ?_
    refine gf_X9_267 C rfl dX9_fork_10 13 rfl ?_
    rw [H.1]
    refine j_bipush (v := nI 6) C dX9_fork_13 (by decide) 15 rfl ?_
    refine n_icmp_ne C 20 18 dX9_fork_15 (by decide) rfl (by omega) (by omega) (fun c_15 => ?_) (fun c_15 => ?_)
    · have loop2 : lm ≠ 6 → ∀ (c k : Nat) (I1 : Nat → Nat → Int32) (B1 : Nat → Nat → Bool), k + c = hd lg + ld lg → gl_fq [1, 2, 6, 7] [1] I I1 → I1 0 1 = nI lm → I1 1 = gl_fkR (I 1) lg lm m → I1 2 = va_cpy (fun t => I 2 (400 * lg + t)) (I 2) 0 (400 * lm) m → I1 6 = gl_fwr (gl_fkok sn lg m) (fun t => I 6 (100 * lg + t)) (I 6) (100 * lm) k → I1 7 = gl_fwr (gl_fkok sn lg m) (fun t => I 7 (100 * lg + t)) (I 7) (100 * lm) k → gl_fg [4, 5, 8] B B1 → B1 4 = va_cpy (fun t => B 4 (400 * lg + t)) (B 4) 0 (400 * lm) m → B1 5 = va_cpy (fun t => B 5 (400 * lg + t)) (B 5) 0 (400 * lm) m → B1 8 = gl_fwr (gl_fkok sn lg m) (fun t => B 8 (100 * lg + t)) (B 8) (100 * lm) k → ∀ x8 : Option Value, gl_J κ 0 0 (gl_mL, I1, (va_up L 3 (va_cpy (fun t => L 3 (400 * lg + t)) (L 3) 0 (400 * lm) m)), B1, gl_mR) 203 [some (.ref 0), some (.int (nI lg)), some (.int (nI m)), some (.int (nI lm)), some (.int (nI (hd lg + ld lg))), some (.int (nI (gl_ct (gl_fkh B sn lg m) k))), some (.int (nI (gl_ct (gl_fkok sn lg m) k))), some (.int (nI k)), x8] [] := by
        intro c_15 c
        have hgl := hk.2.2.2.2.1
        induction c with
        | zero =>
          intro k I1 B1 hkc hf i0 i1 i2 i6 i7 hb b4 b5 b8 x8
          have hkN : k = hd lg + ld lg := by omega
          subst hkN
          refine j_iload C dX9_fork_203 rfl 205 rfl ?_
          refine j_iload C dX9_fork_205 rfl 207 rfl ?_
          refine n_icmp_ge C 319 210 dX9_fork_207 (by decide) rfl (by omega) (by omega) (fun c_207 => ?_) (fun c_207 => ?_)
          · refine j_aload_n C dX9_fork_319 rfl 320 rfl ?_
            refine gf_X9_9 C rfl rfl dX9_fork_320 323 rfl ?_
            refine j_iconst (v := nI 4) C dX9_fork_323 (by decide) 324 rfl ?_
            refine j_iload_n C dX9_fork_324 rfl 325 rfl ?_
            refine n_imul C dX9_fork_325 326 rfl ?_
            refine j_iconst (v := nI 2) C dX9_fork_326 (by decide) 327 rfl ?_
            refine n_iadd C dX9_fork_327 328 rfl ?_
            refine j_iload C dX9_fork_328 rfl 330 rfl ?_
            refine j_iast C rfl (by omega) (by decide) dX9_fork_330 331 rfl ?_
            refine j_aload_n C dX9_fork_331 rfl 332 rfl ?_
            refine gf_X9_9 C rfl rfl dX9_fork_332 335 rfl ?_
            refine j_iconst (v := nI 4) C dX9_fork_335 (by decide) 336 rfl ?_
            refine j_iload_n C dX9_fork_336 rfl 337 rfl ?_
            refine n_imul C dX9_fork_337 338 rfl ?_
            refine j_iconst (v := nI 3) C dX9_fork_338 (by decide) 339 rfl ?_
            refine n_iadd C dX9_fork_339 340 rfl ?_
            refine j_iload C dX9_fork_340 rfl 342 rfl ?_
            refine j_iload C dX9_fork_342 rfl 344 rfl ?_
            refine n_isub C dX9_fork_344 (gl_ct_and _) 345 rfl ?_
            refine j_iast C rfl (by omega) (by decide) dX9_fork_345 346 rfl ?_
            refine j_aload_n C dX9_fork_346 rfl 347 rfl ?_
            refine j_dup C dX9_fork_347 rfl 348 rfl ?_
            refine gf_X9_267 C rfl dX9_fork_348 351 rfl ?_
            rw [gl_u2_ne (show (0 : Nat) ≠ 1 by decide), gl_u2_ne (show (0 : Nat) ≠ 1 by decide), i0]
            refine j_iconst (v := nI 1) C dX9_fork_351 (by decide) 352 rfl ?_
            refine n_iadd C dX9_fork_352 353 rfl ?_
            refine pf_X9_267 C rfl dX9_fork_353 356 rfl ?_
            refine j_iload_n C dX9_fork_356 rfl 357 rfl ?_
            exact j_iret C hQ (by rw [gl_fork, if_pos ⟨c_6, c_15⟩, hcl, hcm]; exact ⟨rfl, _, _, _, rfl, ((hf.u2 (by decide) (by decide)).u2 (by decide) (by decide)).sc (by decide), gl_fg.rf.up (by decide), hb, by rw [gl_u2_eq, gl_up_eq], by rw [gl_u2_ne (show (1 : Nat) ≠ 0 by decide), gl_u2_eq, gl_u2_eq, i1], by rw [gl_u2_ne (show (2 : Nat) ≠ 0 by decide), gl_u2_ne (show (2 : Nat) ≠ 1 by decide), gl_u2_ne (show (2 : Nat) ≠ 1 by decide), i2], by rw [gl_up_eq], b4, b5, by rw [gl_u2_ne (show (6 : Nat) ≠ 0 by decide), gl_u2_ne (show (6 : Nat) ≠ 1 by decide), gl_u2_ne (show (6 : Nat) ≠ 1 by decide), i6], by rw [gl_u2_ne (show (7 : Nat) ≠ 0 by decide), gl_u2_ne (show (7 : Nat) ≠ 1 by decide), gl_u2_ne (show (7 : Nat) ≠ 1 by decide), i7], b8⟩) (by omega) (by omega) dX9_fork_357
          · exact absurd c_207 (by omega)
        | succ c ih =>
          intro k I1 B1 hkc hf i0 i1 i2 i6 i7 hb b4 b5 b8 x8
          have hct := gl_ct_le (g := gl_fkok sn lg m) k
          have hsk := (hk.2.2.2.2.2 k (by omega)).2
          refine j_iload C dX9_fork_203 rfl 205 rfl ?_
          refine j_iload C dX9_fork_205 rfl 207 rfl ?_
          refine n_icmp_ge C 319 210 dX9_fork_207 (by decide) rfl (by omega) (by omega) (fun c_207 => ?_) (fun c_207 => ?_)
          · exact absurd c_207 (by omega)
          · refine j_bipush (v := nI 100) C dX9_fork_210 (by decide) 212 rfl ?_
            refine j_iload_n C dX9_fork_212 rfl 213 rfl ?_
            refine n_imul C dX9_fork_213 214 rfl ?_
            refine j_iload C dX9_fork_214 rfl 216 rfl ?_
            refine n_iadd C dX9_fork_216 217 rfl ?_
            refine j_istore C dX9_fork_217 (Nat.le_of_ble_eq_true rfl) (by rw [hnL]; decide) rfl 219 rfl ?_
            refine j_aload_n C dX9_fork_219 rfl 220 rfl ?_
            refine gf_X9_30 C rfl rfl dX9_fork_220 223 rfl ?_
            refine j_iload C dX9_fork_223 rfl 225 rfl ?_
            refine j_iald C rfl (by omega) (by decide) dX9_fork_225 226 rfl ?_
            rw [i7, gl_fwr_lo (by omega), (hk.2.2.2.2.2 k (by omega)).1]
            refine j_iload_n C dX9_fork_226 rfl 227 rfl ?_
            refine n_icmp_le C 233 230 dX9_fork_227 (by decide) rfl (by omega) (by omega) (fun c_227 => ?_) (fun c_227 => ?_)
            · refine j_aload_n C dX9_fork_233 rfl 234 rfl ?_
              refine gf_X9_27 C rfl rfl dX9_fork_234 237 rfl ?_
              refine j_bipush (v := nI 100) C dX9_fork_237 (by decide) 239 rfl ?_
              refine j_iload_n C dX9_fork_239 rfl 240 rfl ?_
              refine n_imul C dX9_fork_240 241 rfl ?_
              refine j_iload C dX9_fork_241 rfl 243 rfl ?_
              refine n_iadd C dX9_fork_243 244 rfl ?_
              refine j_aload_n C dX9_fork_244 rfl 245 rfl ?_
              refine gf_X9_27 C rfl rfl dX9_fork_245 248 rfl ?_
              refine j_iload C dX9_fork_248 rfl 250 rfl ?_
              refine j_iald C rfl (by omega) (by decide) dX9_fork_250 251 rfl ?_
              rw [i6, gl_fwr_lo (by omega)]
              refine j_iast C rfl (by omega) (by decide) dX9_fork_251 252 rfl ?_
              refine j_aload_n C dX9_fork_252 rfl 253 rfl ?_
              refine gf_X9_30 C rfl rfl dX9_fork_253 256 rfl ?_
              refine j_bipush (v := nI 100) C dX9_fork_256 (by decide) 258 rfl ?_
              refine j_iload_n C dX9_fork_258 rfl 259 rfl ?_
              refine n_imul C dX9_fork_259 260 rfl ?_
              refine j_iload C dX9_fork_260 rfl 262 rfl ?_
              refine n_iadd C dX9_fork_262 263 rfl ?_
              refine j_aload_n C dX9_fork_263 rfl 264 rfl ?_
              refine gf_X9_30 C rfl rfl dX9_fork_264 267 rfl ?_
              refine j_iload C dX9_fork_267 rfl 269 rfl ?_
              refine j_iald C rfl (by omega) (by decide) dX9_fork_269 270 rfl ?_
              rw [gl_u2_ne (show (7 : Nat) ≠ 6 by decide), i7, gl_fwr_lo (by omega)]
              refine j_iast C rfl (by omega) (by decide) dX9_fork_270 271 rfl ?_
              refine j_aload_n C dX9_fork_271 rfl 272 rfl ?_
              refine gf_X9_33 C rfl rfl dX9_fork_272 275 rfl ?_
              refine j_bipush (v := nI 100) C dX9_fork_275 (by decide) 277 rfl ?_
              refine j_iload_n C dX9_fork_277 rfl 278 rfl ?_
              refine n_imul C dX9_fork_278 279 rfl ?_
              refine j_iload C dX9_fork_279 rfl 281 rfl ?_
              refine n_iadd C dX9_fork_281 282 rfl ?_
              refine j_aload_n C dX9_fork_282 rfl 283 rfl ?_
              refine gf_X9_33 C rfl rfl dX9_fork_283 286 rfl ?_
              refine j_iload C dX9_fork_286 rfl 288 rfl ?_
              refine j_zald C rfl (by omega) (by decide) dX9_fork_288 289 rfl ?_
              rw [b8, gl_fwr_lo (by omega)]
              refine j_zast C rfl (by omega) (by decide) dX9_fork_289 290 rfl ?_
              refine j_iload C dX9_fork_290 rfl 292 rfl ?_
              refine j_aload_n C dX9_fork_292 rfl 293 rfl ?_
              refine gf_X9_33 C rfl rfl dX9_fork_293 296 rfl ?_
              refine j_iload C dX9_fork_296 rfl 298 rfl ?_
              refine j_zald C rfl (by omega) (by decide) dX9_fork_298 299 rfl ?_
              rw [gl_u2_eq, gl_up_ne (by omega), b8, gl_fwr_lo (by omega)]
              refine b_if_eq C 306 302 dX9_fork_299 (by decide) rfl (fun c_299 => ?_) (fun c_299 => ?_)
              · refine j_iconst (v := nI 0) C dX9_fork_306 (by decide) 307 rfl ?_
                refine n_iadd C dX9_fork_307 308 rfl ?_
                refine j_istore C dX9_fork_308 (Nat.le_of_ble_eq_true rfl) (by rw [hnL]; decide) rfl 310 rfl ?_
                refine n_iinc C dX9_fork_310 rfl (by rw [hnL]; decide) rfl 313 rfl ?_
                refine n_iinc C dX9_fork_313 rfl (by rw [hnL]; decide) rfl 316 rfl ?_
                refine j_goto (tgt := 203) C dX9_fork_316 (by decide) ?_
                have hokt : gl_fkok sn lg m k = true := decide_eq_true c_227
                have hhv : gl_fkh B sn lg m k = false := by show (gl_fkok sn lg m k && _) = false; rw [hokt, c_299]; rfl
                have := ih (k + 1) (gl_u2 (gl_u2 I1 6 (100 * lm + gl_ct (gl_fkok sn lg m) k) (I 6 (100 * lg + k))) 7 (100 * lm + gl_ct (gl_fkok sn lg m) k) (I 7 (100 * lg + k))) (gl_u2 B1 8 (100 * lm + gl_ct (gl_fkok sn lg m) k) (B 8 (100 * lg + k))) (by omega) ((hf.u2 (by decide) (by decide)).u2 (by decide) (by decide)) i0 i1 i2 (by rw [gl_fwr_t hokt, gl_u2_ne (show (6 : Nat) ≠ 7 by decide), gl_u2_eq, i6]) (by rw [gl_fwr_t hokt, gl_u2_eq, gl_u2_ne (show (7 : Nat) ≠ 6 by decide), i7]) (hb.up (by decide)) b4 b5 (by rw [gl_fwr_t hokt, gl_u2_eq, b8])
                rw [gl_ct_t hokt, gl_ct_f hhv] at this
                exact this _
              · refine j_iconst (v := nI 1) C dX9_fork_302 (by decide) 303 rfl ?_
                refine j_goto (tgt := 307) C dX9_fork_303 (by decide) ?_
                refine n_iadd C dX9_fork_307 308 rfl ?_
                refine j_istore C dX9_fork_308 (Nat.le_of_ble_eq_true rfl) (by rw [hnL]; decide) rfl 310 rfl ?_
                refine n_iinc C dX9_fork_310 rfl (by rw [hnL]; decide) rfl 313 rfl ?_
                refine n_iinc C dX9_fork_313 rfl (by rw [hnL]; decide) rfl 316 rfl ?_
                refine j_goto (tgt := 203) C dX9_fork_316 (by decide) ?_
                have hokt : gl_fkok sn lg m k = true := decide_eq_true c_227
                have hhv : gl_fkh B sn lg m k = true := by show (gl_fkok sn lg m k && _) = true; rw [hokt, c_299]; rfl
                have := ih (k + 1) (gl_u2 (gl_u2 I1 6 (100 * lm + gl_ct (gl_fkok sn lg m) k) (I 6 (100 * lg + k))) 7 (100 * lm + gl_ct (gl_fkok sn lg m) k) (I 7 (100 * lg + k))) (gl_u2 B1 8 (100 * lm + gl_ct (gl_fkok sn lg m) k) (B 8 (100 * lg + k))) (by omega) ((hf.u2 (by decide) (by decide)).u2 (by decide) (by decide)) i0 i1 i2 (by rw [gl_fwr_t hokt, gl_u2_ne (show (6 : Nat) ≠ 7 by decide), gl_u2_eq, i6]) (by rw [gl_fwr_t hokt, gl_u2_eq, gl_u2_ne (show (7 : Nat) ≠ 6 by decide), i7]) (hb.up (by decide)) b4 b5 (by rw [gl_fwr_t hokt, gl_u2_eq, b8])
                rw [gl_ct_t hokt, gl_ct_t hhv] at this
                exact this _
            · refine j_goto (tgt := 313) C dX9_fork_230 (by decide) ?_
              refine n_iinc C dX9_fork_313 rfl (by rw [hnL]; decide) rfl 316 rfl ?_
              refine j_goto (tgt := 203) C dX9_fork_316 (by decide) ?_
              have hokf : gl_fkok sn lg m k = false := decide_eq_false (by omega)
              have hhf : gl_fkh B sn lg m k = false := by show (gl_fkok sn lg m k && _) = false; rw [hokf]; rfl
              rw [← gl_ct_f hokf, ← gl_ct_f hhf]
              exact ih (k + 1) I1 B1 (by omega) hf i0 i1 i2 (by rw [gl_fwr_f hokf]; exact i6) (by rw [gl_fwr_f hokf]; exact i7) hb b4 b5 (by rw [gl_fwr_f hokf]; exact b8) _
      have loop1 : ∀ k j : Nat, j + k = m → lm ≠ 6 → gl_J κ 0 0 (gl_mL, va_up (va_up I 1 (gl_fkR (I 1) lg lm m)) 2 (va_cpy (fun t => I 2 (400 * lg + t)) (I 2) 0 (400 * lm) j), va_up L 3 (va_cpy (fun t => L 3 (400 * lg + t)) (L 3) 0 (400 * lm) j), va_up (va_up B 4 (va_cpy (fun t => B 4 (400 * lg + t)) (B 4) 0 (400 * lm) j)) 5 (va_cpy (fun t => B 5 (400 * lg + t)) (B 5) 0 (400 * lm) j), gl_mR) 55 [some (.ref 0), some (.int (nI lg)), some (.int (nI m)), some (.int (nI lm)), some (.int (nI j)), none, none, none, none] [] := by
        intro k
        induction k with
        | zero =>
          intro j hj c_15
          have hjN : j = m := by omega
          subst hjN
          refine j_iload C dX9_fork_55 rfl 57 rfl ?_
          refine j_iload_n C dX9_fork_57 rfl 58 rfl ?_
          refine n_icmp_ge C 171 61 dX9_fork_58 (by decide) rfl (by omega) (by omega) (fun c_58 => ?_) (fun c_58 => ?_)
          · refine j_aload_n C dX9_fork_171 rfl 172 rfl ?_
            refine gf_X9_9 C rfl rfl dX9_fork_172 175 rfl ?_
            refine j_iconst (v := nI 4) C dX9_fork_175 (by decide) 176 rfl ?_
            refine j_iload_n C dX9_fork_176 rfl 177 rfl ?_
            refine n_imul C dX9_fork_177 178 rfl ?_
            refine j_iconst (v := nI 2) C dX9_fork_178 (by decide) 179 rfl ?_
            refine n_iadd C dX9_fork_179 180 rfl ?_
            refine j_iald C rfl (by omega) (by decide) dX9_fork_180 181 rfl ?_
            rw [gl_up_ne (show (1 : Nat) ≠ 2 by decide), gl_up_eq, show gl_fkR (I 1) lg lm _ (4 * lg + 2) = I 1 (4 * lg + 2) by unfold gl_fkR; rw [gl_up_ne (by omega), gl_up_ne (by omega)], hk.2.2.1]
            refine j_aload_n C dX9_fork_181 rfl 182 rfl ?_
            refine gf_X9_9 C rfl rfl dX9_fork_182 185 rfl ?_
            refine j_iconst (v := nI 4) C dX9_fork_185 (by decide) 186 rfl ?_
            refine j_iload_n C dX9_fork_186 rfl 187 rfl ?_
            refine n_imul C dX9_fork_187 188 rfl ?_
            refine j_iconst (v := nI 3) C dX9_fork_188 (by decide) 189 rfl ?_
            refine n_iadd C dX9_fork_189 190 rfl ?_
            refine j_iald C rfl (by omega) (by decide) dX9_fork_190 191 rfl ?_
            rw [gl_up_ne (show (1 : Nat) ≠ 2 by decide), gl_up_eq, show gl_fkR (I 1) lg lm _ (4 * lg + 3) = I 1 (4 * lg + 3) by unfold gl_fkR; rw [gl_up_ne (by omega), gl_up_ne (by omega)], hk.2.2.2.1]
            refine n_iadd C dX9_fork_191 192 rfl ?_
            refine j_istore C dX9_fork_192 (Nat.le_of_ble_eq_true rfl) (by rw [hnL]; decide) rfl 194 rfl ?_
            refine j_iconst (v := nI 0) C dX9_fork_194 (by decide) 195 rfl ?_
            refine j_istore C dX9_fork_195 (Nat.le_of_ble_eq_true rfl) (by rw [hnL]; decide) rfl 197 rfl ?_
            refine j_iconst (v := nI 0) C dX9_fork_197 (by decide) 198 rfl ?_
            refine j_istore C dX9_fork_198 (Nat.le_of_ble_eq_true rfl) (by rw [hnL]; decide) rfl 200 rfl ?_
            refine j_iconst (v := nI 0) C dX9_fork_200 (by decide) 201 rfl ?_
            refine j_istore C dX9_fork_201 (Nat.le_of_ble_eq_true rfl) (by rw [hnL]; decide) rfl 203 rfl ?_
            exact loop2 c_15 (hd lg + ld lg) 0 _ _ (by omega) ((gl_fq.rf.up (by decide) (by decide)).up (by decide) (by decide)) (by rw [gl_up_ne (show (0 : Nat) ≠ 2 by decide), gl_up_ne (show (0 : Nat) ≠ 1 by decide)]; exact H.1) (by rw [gl_up_ne (show (1 : Nat) ≠ 2 by decide), gl_up_eq]) (by rw [gl_up_eq]) rfl rfl ((gl_fg.rf.up (by decide)).up (by decide)) (by rw [gl_up_ne (show (4 : Nat) ≠ 5 by decide), gl_up_eq]) (by rw [gl_up_eq]) rfl none
          · exact absurd c_58 (by omega)
        | succ k ih =>
          intro j hj c_15
          refine j_iload C dX9_fork_55 rfl 57 rfl ?_
          refine j_iload_n C dX9_fork_57 rfl 58 rfl ?_
          refine n_icmp_ge C 171 61 dX9_fork_58 (by decide) rfl (by omega) (by omega) (fun c_58 => ?_) (fun c_58 => ?_)
          · exact absurd c_58 (by omega)
          · refine j_aload_n C dX9_fork_61 rfl 62 rfl ?_
            refine gf_X9_13 C rfl rfl dX9_fork_62 65 rfl ?_
            refine j_sipush (v := nI 400) C dX9_fork_65 (by decide) 68 rfl ?_
            refine j_iload_n C dX9_fork_68 rfl 69 rfl ?_
            refine n_imul C dX9_fork_69 70 rfl ?_
            refine j_iload C dX9_fork_70 rfl 72 rfl ?_
            refine n_iadd C dX9_fork_72 73 rfl ?_
            refine j_aload_n C dX9_fork_73 rfl 74 rfl ?_
            refine gf_X9_13 C rfl rfl dX9_fork_74 77 rfl ?_
            refine j_sipush (v := nI 400) C dX9_fork_77 (by decide) 80 rfl ?_
            refine j_iload_n C dX9_fork_80 rfl 81 rfl ?_
            refine n_imul C dX9_fork_81 82 rfl ?_
            refine j_iload C dX9_fork_82 rfl 84 rfl ?_
            refine n_iadd C dX9_fork_84 85 rfl ?_
            refine j_iald C rfl (by omega) (by decide) dX9_fork_85 86 rfl ?_
            rw [gl_up_eq, pk_cpy_out (by omega)]
            refine j_iast C rfl (by omega) (by decide) dX9_fork_86 87 rfl ?_
            refine j_aload_n C dX9_fork_87 rfl 88 rfl ?_
            refine gf_X9_16 C rfl rfl dX9_fork_88 91 rfl ?_
            refine j_sipush (v := nI 400) C dX9_fork_91 (by decide) 94 rfl ?_
            refine j_iload_n C dX9_fork_94 rfl 95 rfl ?_
            refine n_imul C dX9_fork_95 96 rfl ?_
            refine j_iload C dX9_fork_96 rfl 98 rfl ?_
            refine n_iadd C dX9_fork_98 99 rfl ?_
            refine j_aload_n C dX9_fork_99 rfl 100 rfl ?_
            refine gf_X9_16 C rfl rfl dX9_fork_100 103 rfl ?_
            refine j_sipush (v := nI 400) C dX9_fork_103 (by decide) 106 rfl ?_
            refine j_iload_n C dX9_fork_106 rfl 107 rfl ?_
            refine n_imul C dX9_fork_107 108 rfl ?_
            refine j_iload C dX9_fork_108 rfl 110 rfl ?_
            refine n_iadd C dX9_fork_110 111 rfl ?_
            refine j_lald C rfl (by omega) (by decide) dX9_fork_111 112 rfl ?_
            rw [gl_up_eq, pk_cpy_out (by omega)]
            refine j_last C rfl (by omega) (by decide) dX9_fork_112 113 rfl ?_
            refine j_aload_n C dX9_fork_113 rfl 114 rfl ?_
            refine gf_X9_20 C rfl rfl dX9_fork_114 117 rfl ?_
            refine j_sipush (v := nI 400) C dX9_fork_117 (by decide) 120 rfl ?_
            refine j_iload_n C dX9_fork_120 rfl 121 rfl ?_
            refine n_imul C dX9_fork_121 122 rfl ?_
            refine j_iload C dX9_fork_122 rfl 124 rfl ?_
            refine n_iadd C dX9_fork_124 125 rfl ?_
            refine j_aload_n C dX9_fork_125 rfl 126 rfl ?_
            refine gf_X9_20 C rfl rfl dX9_fork_126 129 rfl ?_
            refine j_sipush (v := nI 400) C dX9_fork_129 (by decide) 132 rfl ?_
            refine j_iload_n C dX9_fork_132 rfl 133 rfl ?_
            refine n_imul C dX9_fork_133 134 rfl ?_
            refine j_iload C dX9_fork_134 rfl 136 rfl ?_
            refine n_iadd C dX9_fork_136 137 rfl ?_
            refine j_zald C rfl (by omega) (by decide) dX9_fork_137 138 rfl ?_
            rw [gl_up_ne (show (4 : Nat) ≠ 5 by decide), gl_up_eq, pk_cpy_out (by omega)]
            refine j_zast C rfl (by omega) (by decide) dX9_fork_138 139 rfl ?_
            refine j_aload_n C dX9_fork_139 rfl 140 rfl ?_
            refine gf_X9_24 C rfl rfl dX9_fork_140 143 rfl ?_
            refine j_sipush (v := nI 400) C dX9_fork_143 (by decide) 146 rfl ?_
            refine j_iload_n C dX9_fork_146 rfl 147 rfl ?_
            refine n_imul C dX9_fork_147 148 rfl ?_
            refine j_iload C dX9_fork_148 rfl 150 rfl ?_
            refine n_iadd C dX9_fork_150 151 rfl ?_
            refine j_aload_n C dX9_fork_151 rfl 152 rfl ?_
            refine gf_X9_24 C rfl rfl dX9_fork_152 155 rfl ?_
            refine j_sipush (v := nI 400) C dX9_fork_155 (by decide) 158 rfl ?_
            refine j_iload_n C dX9_fork_158 rfl 159 rfl ?_
            refine n_imul C dX9_fork_159 160 rfl ?_
            refine j_iload C dX9_fork_160 rfl 162 rfl ?_
            refine n_iadd C dX9_fork_162 163 rfl ?_
            refine j_zald C rfl (by omega) (by decide) dX9_fork_163 164 rfl ?_
            rw [gl_u2_ne (show (5 : Nat) ≠ 4 by decide), gl_up_eq, pk_cpy_out (by omega)]
            refine j_zast C rfl (by omega) (by decide) dX9_fork_164 165 rfl ?_
            refine n_iinc C dX9_fork_165 rfl (by rw [hnL]; decide) rfl 168 rfl ?_
            refine j_goto (tgt := 55) C dX9_fork_168 (by decide) ?_
            rw [show ∀ (q : Nat → Nat → Bool) (c5 : Nat → Bool) (v4 v5 : Bool) (i4 : Nat), gl_u2 (gl_u2 (va_up q 5 c5) 4 i4 v4) 5 i4 v5 = va_up (va_up q 4 (va_up (q 4) i4 v4)) 5 (va_up c5 i4 v5) from fun q c5 v4 v5 i4 => gl_c45 q c5 v4 v5 i4, gl_up_up, gl_up_eq, gl_u2_up, gl_u2_up, gl_cpy_sG (a := fun t => I 2 (400 * lg + t)), gl_cpy_sG (a := fun t => L 3 (400 * lg + t)), gl_cpy_sG (a := fun t => B 4 (400 * lg + t)), gl_cpy_sG (a := fun t => B 5 (400 * lg + t))]
            exact ih (j + 1) (by omega) c_15
      refine j_aload_n C dX9_fork_20 rfl 21 rfl ?_
      refine gf_X9_267 C rfl dX9_fork_21 24 rfl ?_
      rw [H.1]
      refine j_istore_n C dX9_fork_24 (Nat.le_of_ble_eq_true rfl) (by rw [hnL]; decide) rfl 25 rfl ?_
      refine j_aload_n C dX9_fork_25 rfl 26 rfl ?_
      refine gf_X9_9 C rfl rfl dX9_fork_26 29 rfl ?_
      refine j_iconst (v := nI 4) C dX9_fork_29 (by decide) 30 rfl ?_
      refine j_iload_n C dX9_fork_30 rfl 31 rfl ?_
      refine n_imul C dX9_fork_31 32 rfl ?_
      refine j_aload_n C dX9_fork_32 rfl 33 rfl ?_
      refine gf_X9_9 C rfl rfl dX9_fork_33 36 rfl ?_
      refine j_iconst (v := nI 4) C dX9_fork_36 (by decide) 37 rfl ?_
      refine j_iload_n C dX9_fork_37 rfl 38 rfl ?_
      refine n_imul C dX9_fork_38 39 rfl ?_
      refine j_iald C rfl (by omega) (by decide) dX9_fork_39 40 rfl ?_
      refine j_iast C rfl (by omega) (by decide) dX9_fork_40 41 rfl ?_
      refine j_aload_n C dX9_fork_41 rfl 42 rfl ?_
      refine gf_X9_9 C rfl rfl dX9_fork_42 45 rfl ?_
      refine j_iconst (v := nI 4) C dX9_fork_45 (by decide) 46 rfl ?_
      refine j_iload_n C dX9_fork_46 rfl 47 rfl ?_
      refine n_imul C dX9_fork_47 48 rfl ?_
      refine j_iconst (v := nI 1) C dX9_fork_48 (by decide) 49 rfl ?_
      refine n_iadd C dX9_fork_49 50 rfl ?_
      refine j_iload_n C dX9_fork_50 rfl 51 rfl ?_
      refine j_iast C rfl (by omega) (by decide) dX9_fork_51 52 rfl ?_
      refine j_iconst (v := nI 0) C dX9_fork_52 (by decide) 53 rfl ?_
      refine j_istore C dX9_fork_53 (Nat.le_of_ble_eq_true rfl) (by rw [hnL]; decide) rfl 55 rfl ?_
      have := loop1 m 0 (by omega) c_15
      rw [gl_cpyg0, gl_cpyg0, gl_cpyg0, gl_cpyg0, gl_up_self, gl_up_self, gl_up_self B 5, show va_up (va_up I 1 (gl_fkR (I 1) lg lm m)) 2 (I 2) = va_up I 1 (gl_fkR (I 1) lg lm m) by rw [← gl_up_ne (f := I) (v := gl_fkR (I 1) lg lm m) (show (2 : Nat) ≠ 1 by decide), gl_up_self], gl_fkR, ← gl_u2_up] at this
      exact this
    · refine j_iconst (v := -1) C dX9_fork_18 (by decide) 19 rfl ?_
      exact j_iret C hQ (by rw [gl_fork, if_neg (fun q => q.2 c_15)]; exact ⟨rfl, rfl⟩) (by omega) (by omega) dX9_fork_19
