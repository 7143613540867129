/-! MODULE Model, proofs tried: isWayRight, check (by gen52.py) -/
set_option maxRecDepth 100000
theorem gl_nm (n : Nat) : nI n - nI 1 = nI n + (-1) := by
  rw [show nI 1 = (1 : Int32) from rfl]
  grind
/-- up a way, from its end -/
def gl_wup (row : Nat → Nat → Int32) (kb : Nat → Bool) : Nat → (Nat → Int32) → Nat → Int32
  | 0, acc => acc
  | d + 1, acc => gl_wup row kb d (if kb d = true then gl_join (row d) acc else gl_join acc (row d))
theorem gl_wup_congr {row row' : Nat → Nat → Int32} {kb : Nat → Bool} : ∀ (d : Nat) (acc : Nat → Int32), (∀ i, i < d → ∀ t, t < 8 → row i t = row' i t) → gl_wup row kb d acc = gl_wup row' kb d acc
  | 0, acc, _ => rfl
  | d + 1, acc, h => by
    unfold gl_wup
    rw [gl_join_congr (x := row d) (x' := row' d) (y := acc) (y' := acc) (fun t ht => h d (by omega) t ht) (fun t _ => rfl), gl_join_congr (y := row d) (y' := row' d) (x := acc) (x' := acc) (fun t _ => rfl) (fun t ht => h d (by omega) t ht)]
    exact gl_wup_congr d _ (fun i hi => h i (by omega))
/-- what stands at a way's end: of one that is held, of another one, of none -/
def gl_wend (hld oth : Prop) [Decidable hld] [Decidable oth] (ky ok la : Int32) : Nat → Int32 := if hld then gl_leaf ky la else if oth then gl_leaf ok la else fun _ => nI 0
def gl_wR (row : Nat → Nat → Int32) (n : Nat) (hld oth : Prop) [Decidable hld] [Decidable oth] (ky ok la : Int32) (g : Nat → Int32) : Bool := if ¬ hld ∧ oth ∧ ok = ky then false else gl_lk (gl_wup row (fun d => gl_bit (gl_way ky) d) n (gl_wend hld oth ky ok la)) g 8
set_option maxHeartbeats 4000000 in
set_option maxRecDepth 100000 in
theorem ct_X9_isWayRight {l : Launch} {δ : gl_Del} {I : Nat → Nat → Int32} {L : Nat → Nat → Int64} {B : Nat → Nat → Bool} {kd sm nn fa sb : Nat → Nat} {s q : Nat} (h : Nat) (hh : 5 ≤ h) (P : gl_SI I kd sm nn fa sb) (hs : s < 16) (hq : q + 28 ≤ 336) : gl_Ct l δ yX9_isWayRight (ws_ yX9_isWayRight cX9_isWayRight 8 ((some FieldType.boolean))) (gl_rm h 0 0) 0 0 [.ref 0, .int (nI s), .ref 13, .int (nI q)] (gl_mL, I, L, B, gl_mR) (gl_Qi fun r S => r = b2i (gl_wR (gl_stp I s) (sm s) (kd s = 3) (I 9 (8 * s + 7) = nI 1) (I 10 (40 * s)) (I 9 (8 * s + 6)) (I 9 (8 * s + 5)) (fun t => I 13 (q + 12 + t))) ∧ ∃ I', S = (gl_mL, I', L, B, gl_mR) ∧ gl_fq [39, 40, 42, 43, 44, 45, 46, 55, 56] [49, 63] I I') := by
  refine gl_of (by decide) (Nat.le_of_ble_eq_true rfl) rfl ?_
  intro κ C hQ hlκ hδκ hnL hini
  change gl_Cx κ RX9 _ _ _ at C
  obtain ⟨k0, kb, k1, k1b, k2, k2b, k3, k4, k4b, k5, k6, k7⟩ := P s hs
  have partC : ∀ (I0 : Nat → Nat → Int32) (acc0 : Nat → Int32) (b4 : Bool) (x6 x7 : Option Value), gl_fq [39, 40, 42, 43, 44, 45, 46, 55, 56] [49, 63] I I0 → (∀ t, t < 8 → I0 56 t = acc0 t) → gl_lk (gl_wup (gl_stp I s) (fun d => gl_bit (gl_way (I 10 (40 * s))) d) (sm s) acc0) (fun t => I 13 (q + 12 + t)) 8 = (gl_wR (gl_stp I s) (sm s) (kd s = 3) (I 9 (8 * s + 7) = nI 1) (I 10 (40 * s)) (I 9 (8 * s + 6)) (I 9 (8 * s + 5)) (fun t => I 13 (q + 12 + t))) → gl_J κ 0 0 (gl_mL, I0, L, B, gl_mR) 163 [some (.ref 0), some (.int (nI s)), some (.ref 13), some (.int (nI q)), some (.int (b2i b4)), some (.int (I 10 (40 * s))), x6, x7] [] := by
    intro I0 acc0 b4 x6 x7 hf0 ha0 htg0
    have loop : ∀ (d : Nat) (acc : Nat → Int32) (I1 : Nat → Nat → Int32), d ≤ 256 → gl_fq [39, 40, 42, 43, 44, 45, 46, 55, 56] [49, 63] I I1 → (∀ t, t < 8 → I1 56 t = acc t) → (∀ t, t < 8 → I1 55 t = gl_way (I 10 (40 * s)) t) → gl_lk (gl_wup (gl_stp I s) (fun d => gl_bit (gl_way (I 10 (40 * s))) d) d acc) (fun t => I 13 (q + 12 + t)) 8 = (gl_wR (gl_stp I s) (sm s) (kd s = 3) (I 9 (8 * s + 7) = nI 1) (I 10 (40 * s)) (I 9 (8 * s + 6)) (I 9 (8 * s + 5)) (fun t => I 13 (q + 12 + t))) → ∀ x7 : Option Value, gl_J κ 0 0 (gl_mL, I1, L, B, gl_mR) 193 [some (.ref 0), some (.int (nI s)), some (.ref 13), some (.int (nI q)), some (.int (b2i b4)), some (.int (I 10 (40 * s))), some (.int (nI d + (-1))), x7] [] := by
      intro d
      induction d with
      | zero =>
        intro acc I1 hd hf ha hw htg x7
        refine j_iload C dX9_isWayRight_193 rfl 195 rfl ?_
        refine j_if_lt C 273 198 dX9_isWayRight_195 (by decide) rfl (fun c_195 => ?_) (fun c_195 => ?_)
        · refine j_aload_n C dX9_isWayRight_273 rfl 274 rfl ?_
          refine gf_X9_178 C rfl rfl dX9_isWayRight_274 277 rfl ?_
          refine j_iconst (v := nI 0) C dX9_isWayRight_277 (by decide) 278 rfl ?_
          refine j_aload_n C dX9_isWayRight_278 rfl 279 rfl ?_
          refine j_iload_n C dX9_isWayRight_279 rfl 280 rfl ?_
          refine j_bipush (v := nI 12) C dX9_isWayRight_280 (by decide) 282 rfl ?_
          refine n_iadd C dX9_isWayRight_282 283 rfl ?_
          refine j_ci C (cs_X9_318 C (ct_X9_areLike (Λ := gl_mL) (R := gl_mR) (I := I1) (x := 56) (nx := 8) (p := 0) (y := 13) (ny := 336) (q := q + 12) (h - 1) (by omega) rfl (by decide) (by decide) rfl (by omega) (by decide)) rfl (by omega) (by omega) (by omega) rfl (Nat.le_of_ble_eq_true rfl) dX9_isWayRight_283) 286 rfl ?_
          rintro _ _ ⟨rfl, rfl⟩
          rw [gl_lk_congr (f' := acc) (g' := fun t => I 13 (q + 12 + t)) 8 (fun t ht => by rw [Nat.zero_add]; exact ha t ht) (fun t ht => by rw [hf.1 13 (by decide) (by decide)])]
          exact j_zret C hQ ⟨by rw [← htg]; rfl, _, rfl, hf⟩ (by omega) (by omega) dX9_isWayRight_286
        · exact absurd (show nI 0 + (-1) < 0 by decide) c_195
      | succ d ih =>
        intro acc I1 hd hf ha hw htg x7
        rw [pk_m1]
        refine j_iload C dX9_isWayRight_193 rfl 195 rfl ?_
        refine n_if_lt C 198 dX9_isWayRight_195 (tgt := 273) (by decide) rfl (by omega) ?_
        refine j_bipush (v := nI 8) C dX9_isWayRight_198 (by decide) 200 rfl ?_
        refine j_sipush (v := nI 256) C dX9_isWayRight_200 (by decide) 203 rfl ?_
        refine j_iload_n C dX9_isWayRight_203 rfl 204 rfl ?_
        refine n_imul C dX9_isWayRight_204 205 rfl ?_
        refine j_iload C dX9_isWayRight_205 rfl 207 rfl ?_
        refine n_iadd C dX9_isWayRight_207 208 rfl ?_
        refine n_imul C dX9_isWayRight_208 209 rfl ?_
        refine j_istore C dX9_isWayRight_209 (Nat.le_of_ble_eq_true rfl) (by rw [hnL]; decide) rfl 211 rfl ?_
        refine j_aload_n C dX9_isWayRight_211 rfl 212 rfl ?_
        refine gf_X9_175 C rfl rfl dX9_isWayRight_212 215 rfl ?_
        refine j_iconst (v := nI 0) C dX9_isWayRight_215 (by decide) 216 rfl ?_
        refine j_iload C dX9_isWayRight_216 rfl 218 rfl ?_
        refine j_ci C (cs_X9_237 C (ct_X9_isOne (Λ := gl_mL) (R := gl_mR) (I := I1) (x := 55) (nx := 8) (fr := 0) (h - 1) (by omega) rfl (by decide) (by decide) (by omega)) rfl (by omega) (by omega) (by omega) rfl (Nat.le_of_ble_eq_true rfl) dX9_isWayRight_218) 221 rfl ?_
        rintro _ _ ⟨rfl, rfl⟩
        rw [gl_bit_congr (g := gl_way (I 10 (40 * s))) (show d < 256 by omega) (fun t ht => by rw [Nat.zero_add]; exact hw t ht)]
        refine b_if_eq C 247 224 dX9_isWayRight_221 (by decide) rfl (fun c_221 => ?_) (fun c_221 => ?_)
        · refine j_aload_n C dX9_isWayRight_247 rfl 248 rfl ?_
          refine j_aload_n C dX9_isWayRight_248 rfl 249 rfl ?_
          refine gf_X9_178 C rfl rfl dX9_isWayRight_249 252 rfl ?_
          refine j_iconst (v := nI 0) C dX9_isWayRight_252 (by decide) 253 rfl ?_
          refine j_aload_n C dX9_isWayRight_253 rfl 254 rfl ?_
          refine gf_X9_46 C rfl rfl dX9_isWayRight_254 257 rfl ?_
          refine j_iload C dX9_isWayRight_257 rfl 259 rfl ?_
          refine j_aload_n C dX9_isWayRight_259 rfl 260 rfl ?_
          refine gf_X9_178 C rfl rfl dX9_isWayRight_260 263 rfl ?_
          refine j_iconst (v := nI 0) C dX9_isWayRight_263 (by decide) 264 rfl ?_
          refine j_cv C (cs_X9_204 C (ct_X9_join (I := I1) (x := 56) (nx := 8) (xf := 0) (y := 12) (ny := 32768) (yf := 8 * (256 * s + d)) (to := 56) (nt := 8) (at_ := 0) (h - 1) (by omega) rfl (by decide) (by decide) (by decide) (by decide) rfl (by decide) (by decide) (by omega) (by decide) rfl (by decide) (by decide) (by decide) (by decide)) rfl rfl (by omega) (by omega) (by omega) rfl (Nat.le_of_ble_eq_true rfl) dX9_isWayRight_264) 267 rfl ?_
          rintro _ ⟨w, m, rfl⟩
          refine j_iinc C dX9_isWayRight_267 rfl rfl (by rw [hnL]; decide) rfl 270 rfl ?_
          refine j_goto (tgt := 193) C dX9_isWayRight_270 (by decide) ?_
          refine ih _ _ (by omega) ((hf.wm (by decide) (by decide)).up (by decide) (by decide)) (fun t ht => by rw [gl_up_eq, gl_cpy_lt ht, gl_join_congr (x' := acc) (y' := gl_stp I s d) (fun t ht => by rw [Nat.zero_add]; exact ha t ht) (fun t ht => by rw [hf.1 12 (by decide) (by decide)])]) (fun t ht => by rw [gl_up_ne (show (55 : Nat) ≠ 56 by decide), gl_wm_o (by decide) (by decide)]; exact hw t ht) ?_ _
          rw [← htg, gl_wup, if_neg (by rw [c_221]; decide)]
        · refine j_aload_n C dX9_isWayRight_224 rfl 225 rfl ?_
          refine j_aload_n C dX9_isWayRight_225 rfl 226 rfl ?_
          refine gf_X9_46 C rfl rfl dX9_isWayRight_226 229 rfl ?_
          refine j_iload C dX9_isWayRight_229 rfl 231 rfl ?_
          refine j_aload_n C dX9_isWayRight_231 rfl 232 rfl ?_
          refine gf_X9_178 C rfl rfl dX9_isWayRight_232 235 rfl ?_
          refine j_iconst (v := nI 0) C dX9_isWayRight_235 (by decide) 236 rfl ?_
          refine j_aload_n C dX9_isWayRight_236 rfl 237 rfl ?_
          refine gf_X9_178 C rfl rfl dX9_isWayRight_237 240 rfl ?_
          refine j_iconst (v := nI 0) C dX9_isWayRight_240 (by decide) 241 rfl ?_
          refine j_cv C (cs_X9_204 C (ct_X9_join (I := I1) (x := 12) (nx := 32768) (xf := 8 * (256 * s + d)) (y := 56) (ny := 8) (yf := 0) (to := 56) (nt := 8) (at_ := 0) (h - 1) (by omega) rfl (by decide) (by decide) (by omega) (by decide) rfl (by decide) (by decide) (by decide) (by decide) rfl (by decide) (by decide) (by decide) (by decide)) rfl rfl (by omega) (by omega) (by omega) rfl (Nat.le_of_ble_eq_true rfl) dX9_isWayRight_241) 244 rfl ?_
          rintro _ ⟨w, m, rfl⟩
          refine j_goto (tgt := 267) C dX9_isWayRight_244 (by decide) ?_
          refine j_iinc C dX9_isWayRight_267 rfl rfl (by rw [hnL]; decide) rfl 270 rfl ?_
          refine j_goto (tgt := 193) C dX9_isWayRight_270 (by decide) ?_
          refine ih _ _ (by omega) ((hf.wm (by decide) (by decide)).up (by decide) (by decide)) (fun t ht => by rw [gl_up_eq, gl_cpy_lt ht, gl_join_congr (x' := gl_stp I s d) (y' := acc) (fun t ht => by rw [hf.1 12 (by decide) (by decide)]) (fun t ht => by rw [Nat.zero_add]; exact ha t ht)]) (fun t ht => by rw [gl_up_ne (show (55 : Nat) ≠ 56 by decide), gl_wm_o (by decide) (by decide)]; exact hw t ht) ?_ _
          rw [← htg, gl_wup, if_pos c_221]
    refine j_aload_n C dX9_isWayRight_163 rfl 164 rfl ?_
    refine j_iload C dX9_isWayRight_164 rfl 166 rfl ?_
    refine j_cv C (cs_X9_234 C (ct_X9_wayOf (h - 1) (by omega)) rfl rfl (by omega) (by omega) (by omega) rfl (Nat.le_of_ble_eq_true rfl) dX9_isWayRight_166) 169 rfl ?_
    rintro _ ⟨w, rfl⟩
    refine j_aload_n C dX9_isWayRight_169 rfl 170 rfl ?_
    refine j_aload_n C dX9_isWayRight_170 rfl 171 rfl ?_
    refine gf_X9_175 C rfl rfl dX9_isWayRight_171 174 rfl ?_
    refine j_iconst (v := nI 0) C dX9_isWayRight_174 (by decide) 175 rfl ?_
    refine j_cv C (cs_X9_192 C (ct_X9_toRow (to := 55) (nt := 8) (at_ := 0) (h - 1) (by omega) rfl (by decide) (by decide) (by decide)) rfl rfl (by omega) (by omega) (by omega) rfl (Nat.le_of_ble_eq_true rfl) dX9_isWayRight_175) 178 rfl ?_
    rintro _ rfl
    rw [gl_wm_40, gl_wm_o (show (55 : Nat) ≠ 39 by decide) (by decide)]
    refine j_aload_n C dX9_isWayRight_178 rfl 179 rfl ?_
    refine gf_X9_36 C rfl rfl dX9_isWayRight_179 182 rfl ?_
    refine j_bipush (v := nI 8) C dX9_isWayRight_182 (by decide) 184 rfl ?_
    refine j_iload_n C dX9_isWayRight_184 rfl 185 rfl ?_
    refine n_imul C dX9_isWayRight_185 186 rfl ?_
    refine j_iconst (v := nI 1) C dX9_isWayRight_186 (by decide) 187 rfl ?_
    refine n_iadd C dX9_isWayRight_187 188 rfl ?_
    refine j_iald C rfl (by omega) (by decide) dX9_isWayRight_188 189 rfl ?_
    rw [gl_up_ne (show (9 : Nat) ≠ 55 by decide), gl_wm_o (by decide) (by decide), hf0.1 9 (by decide) (by decide), k1]
    refine j_iconst (v := nI 1) C dX9_isWayRight_189 (by decide) 190 rfl ?_
    refine j_isub C dX9_isWayRight_190 191 rfl ?_
    rw [gl_nm]
    refine j_istore C dX9_isWayRight_191 (Nat.le_of_ble_eq_true rfl) (by rw [hnL]; decide) rfl 193 rfl ?_
    exact loop (sm s) acc0 _ k1b ((hf0.wm (by decide) (by decide)).up (by decide) (by decide)) (fun t ht => by rw [gl_up_ne (show (56 : Nat) ≠ 55 by decide), gl_wm_o (by decide) (by decide)]; exact ha0 t ht) (fun t ht => by rw [gl_up_eq, gl_cpy_lt ht]) htg0 _
  refine j_aload_n C dX9_isWayRight_0 rfl 1 rfl ?_
  refine gf_X9_36 C rfl rfl dX9_isWayRight_1 4 rfl ?_
  refine j_bipush (v := nI 8) C dX9_isWayRight_4 (by decide) 6 rfl ?_
  refine j_iload_n C dX9_isWayRight_6 rfl 7 rfl ?_
  refine n_imul C dX9_isWayRight_7 8 rfl ?_
  refine j_iald C rfl (by omega) (by decide) dX9_isWayRight_8 9 rfl ?_
  rw [k0]
  refine j_iconst (v := nI 3) C dX9_isWayRight_9 (by decide) 10 rfl ?_
  refine n_icmp_ne C 17 13 dX9_isWayRight_10 (by decide) rfl (by omega) (by omega) (fun c_10 => ?_) (fun c_10 => ?_)
  · refine j_iconst (v := b2i false) C dX9_isWayRight_17 (by decide) 18 rfl ?_
    refine j_istore C dX9_isWayRight_18 (Nat.le_of_ble_eq_true rfl) (by rw [hnL]; decide) rfl 20 rfl ?_
    refine j_aload_n C dX9_isWayRight_20 rfl 21 rfl ?_
    refine gf_X9_39 C rfl rfl dX9_isWayRight_21 24 rfl ?_
    refine j_bipush (v := nI 40) C dX9_isWayRight_24 (by decide) 26 rfl ?_
    refine j_iload_n C dX9_isWayRight_26 rfl 27 rfl ?_
    refine n_imul C dX9_isWayRight_27 28 rfl ?_
    refine j_iald C rfl (by omega) (by decide) dX9_isWayRight_28 29 rfl ?_
    refine j_istore C dX9_isWayRight_29 (Nat.le_of_ble_eq_true rfl) (by rw [hnL]; decide) rfl 31 rfl ?_
    refine j_iload C dX9_isWayRight_31 rfl 33 rfl ?_
    refine b_if_eq C 65 36 dX9_isWayRight_33 (by decide) rfl (fun c_33 => ?_) (fun c_33 => ?_)
    · refine j_aload_n C dX9_isWayRight_65 rfl 66 rfl ?_
      refine gf_X9_36 C rfl rfl dX9_isWayRight_66 69 rfl ?_
      refine j_bipush (v := nI 8) C dX9_isWayRight_69 (by decide) 71 rfl ?_
      refine j_iload_n C dX9_isWayRight_71 rfl 72 rfl ?_
      refine n_imul C dX9_isWayRight_72 73 rfl ?_
      refine j_bipush (v := nI 7) C dX9_isWayRight_73 (by decide) 75 rfl ?_
      refine n_iadd C dX9_isWayRight_75 76 rfl ?_
      refine j_iald C rfl (by omega) (by decide) dX9_isWayRight_76 77 rfl ?_
      refine j_iconst (v := nI 1) C dX9_isWayRight_77 (by decide) 78 rfl ?_
      refine j_icmp_ne C 139 81 dX9_isWayRight_78 (by decide) rfl (fun c_78 => ?_) (fun c_78 => ?_)
      · have loop : ∀ k j : Nat, j + k = 8 → gl_J κ 0 0 (gl_mL, va_up I 56 (va_cpy (fun _ => nI 0) (I 56) 0 0 j), L, B, gl_mR) 142 [some (.ref 0), some (.int (nI s)), some (.ref 13), some (.int (nI q)), some (.int (b2i false)), some (.int (I 10 (40 * s))), some (.int (nI j)), none] [] := by
          intro k
          induction k with
          | zero =>
            intro j hj
            have hjN : j = 8 := by omega
            subst hjN
            refine j_iload C dX9_isWayRight_142 rfl 144 rfl ?_
            refine j_bipush (v := nI 8) C dX9_isWayRight_144 (by decide) 146 rfl ?_
            refine n_icmp_ge C 163 149 dX9_isWayRight_146 (by decide) rfl (by omega) (by omega) (fun c_146 => ?_) (fun c_146 => ?_)
            · exact partC _ (fun _ => nI 0) false _ _ (gl_fq.rf.up (by decide) (by decide)) (fun t ht => by rw [gl_up_eq, gl_cpy_lt ht]) (by rw [gl_wR, if_neg (fun q => c_78 q.2.1), gl_wend, if_neg c_10, if_neg c_78])
            · exact absurd c_146 (by omega)
          | succ k ih =>
            intro j hj
            refine j_iload C dX9_isWayRight_142 rfl 144 rfl ?_
            refine j_bipush (v := nI 8) C dX9_isWayRight_144 (by decide) 146 rfl ?_
            refine n_icmp_ge C 163 149 dX9_isWayRight_146 (by decide) rfl (by omega) (by omega) (fun c_146 => ?_) (fun c_146 => ?_)
            · exact absurd c_146 (by omega)
            · refine j_aload_n C dX9_isWayRight_149 rfl 150 rfl ?_
              refine gf_X9_178 C rfl rfl dX9_isWayRight_150 153 rfl ?_
              refine j_iload C dX9_isWayRight_153 rfl 155 rfl ?_
              refine j_iconst (v := nI 0) C dX9_isWayRight_155 (by decide) 156 rfl ?_
              refine j_iast C rfl (by omega) (by decide) dX9_isWayRight_156 157 rfl ?_
              refine n_iinc C dX9_isWayRight_157 rfl (by rw [hnL]; decide) rfl 160 rfl ?_
              refine j_goto (tgt := 142) C dX9_isWayRight_160 (by decide) ?_
              rw [gl_u2_up, gl_cpy_s0 (a := fun _ => nI 0)]
              exact ih (j + 1) (by omega)
        refine j_iconst (v := nI 0) C dX9_isWayRight_139 (by decide) 140 rfl ?_
        refine j_istore C dX9_isWayRight_140 (Nat.le_of_ble_eq_true rfl) (by rw [hnL]; decide) rfl 142 rfl ?_
        have := loop 8 0 rfl
        rw [gl_cpy_0, gl_up_self] at this
        exact this
      · refine j_aload_n C dX9_isWayRight_81 rfl 82 rfl ?_
        refine gf_X9_36 C rfl rfl dX9_isWayRight_82 85 rfl ?_
        refine j_bipush (v := nI 8) C dX9_isWayRight_85 (by decide) 87 rfl ?_
        refine j_iload_n C dX9_isWayRight_87 rfl 88 rfl ?_
        refine n_imul C dX9_isWayRight_88 89 rfl ?_
        refine j_bipush (v := nI 6) C dX9_isWayRight_89 (by decide) 91 rfl ?_
        refine n_iadd C dX9_isWayRight_91 92 rfl ?_
        refine j_iald C rfl (by omega) (by decide) dX9_isWayRight_92 93 rfl ?_
        refine j_iload C dX9_isWayRight_93 rfl 95 rfl ?_
        refine j_icmp_ne C 100 98 dX9_isWayRight_95 (by decide) rfl (fun c_95 => ?_) (fun c_95 => ?_)
        · refine j_aload_n C dX9_isWayRight_100 rfl 101 rfl ?_
          refine j_aload_n C dX9_isWayRight_101 rfl 102 rfl ?_
          refine gf_X9_36 C rfl rfl dX9_isWayRight_102 105 rfl ?_
          refine j_bipush (v := nI 8) C dX9_isWayRight_105 (by decide) 107 rfl ?_
          refine j_iload_n C dX9_isWayRight_107 rfl 108 rfl ?_
          refine n_imul C dX9_isWayRight_108 109 rfl ?_
          refine j_bipush (v := nI 6) C dX9_isWayRight_109 (by decide) 111 rfl ?_
          refine n_iadd C dX9_isWayRight_111 112 rfl ?_
          refine j_iald C rfl (by omega) (by decide) dX9_isWayRight_112 113 rfl ?_
          refine j_aload_n C dX9_isWayRight_113 rfl 114 rfl ?_
          refine gf_X9_36 C rfl rfl dX9_isWayRight_114 117 rfl ?_
          refine j_bipush (v := nI 8) C dX9_isWayRight_117 (by decide) 119 rfl ?_
          refine j_iload_n C dX9_isWayRight_119 rfl 120 rfl ?_
          refine n_imul C dX9_isWayRight_120 121 rfl ?_
          refine j_iconst (v := nI 5) C dX9_isWayRight_121 (by decide) 122 rfl ?_
          refine n_iadd C dX9_isWayRight_122 123 rfl ?_
          refine j_iald C rfl (by omega) (by decide) dX9_isWayRight_123 124 rfl ?_
          refine j_cv C (cs_X9_241 C (ct_X9_leaf (h - 1) (by omega)) rfl rfl (by omega) (by omega) (by omega) rfl (Nat.le_of_ble_eq_true rfl) dX9_isWayRight_124) 127 rfl ?_
          rintro _ ⟨w, rfl⟩
          refine j_aload_n C dX9_isWayRight_127 rfl 128 rfl ?_
          refine j_aload_n C dX9_isWayRight_128 rfl 129 rfl ?_
          refine gf_X9_178 C rfl rfl dX9_isWayRight_129 132 rfl ?_
          refine j_iconst (v := nI 0) C dX9_isWayRight_132 (by decide) 133 rfl ?_
          refine j_cv C (cs_X9_192 C (ct_X9_toRow (to := 56) (nt := 8) (at_ := 0) (h - 1) (by omega) rfl (by decide) (by decide) (by decide)) rfl rfl (by omega) (by omega) (by omega) rfl (Nat.le_of_ble_eq_true rfl) dX9_isWayRight_133) 136 rfl ?_
          rintro _ rfl
          rw [gl_wm_40, gl_wm_o (show (56 : Nat) ≠ 39 by decide) (by decide)]
          refine j_goto (tgt := 163) C dX9_isWayRight_136 (by decide) ?_
          exact partC _ (gl_leaf (I 9 (8 * s + 6)) (I 9 (8 * s + 5))) false _ _ ((gl_fq.rf.wm (by decide) (by decide)).up (by decide) (by decide)) (fun t ht => by rw [gl_up_eq, gl_cpy_lt ht]) (by rw [gl_wR, if_neg (fun q => c_95 q.2.2), gl_wend, if_neg c_10, if_pos c_78])
        · refine j_iconst (v := b2i false) C dX9_isWayRight_98 (by decide) 99 rfl ?_
          exact j_zret C hQ ⟨by rw [gl_wR, if_pos ⟨c_10, c_78, c_95⟩], _, rfl, gl_fq.rf⟩ (by omega) (by omega) dX9_isWayRight_99
    · exact absurd c_33 (by decide)
  · refine j_iconst (v := b2i true) C dX9_isWayRight_13 (by decide) 14 rfl ?_
    refine j_goto (tgt := 18) C dX9_isWayRight_14 (by decide) ?_
    refine j_istore C dX9_isWayRight_18 (Nat.le_of_ble_eq_true rfl) (by rw [hnL]; decide) rfl 20 rfl ?_
    refine j_aload_n C dX9_isWayRight_20 rfl 21 rfl ?_
    refine gf_X9_39 C rfl rfl dX9_isWayRight_21 24 rfl ?_
    refine j_bipush (v := nI 40) C dX9_isWayRight_24 (by decide) 26 rfl ?_
    refine j_iload_n C dX9_isWayRight_26 rfl 27 rfl ?_
    refine n_imul C dX9_isWayRight_27 28 rfl ?_
    refine j_iald C rfl (by omega) (by decide) dX9_isWayRight_28 29 rfl ?_
    refine j_istore C dX9_isWayRight_29 (Nat.le_of_ble_eq_true rfl) (by rw [hnL]; decide) rfl 31 rfl ?_
    refine j_iload C dX9_isWayRight_31 rfl 33 rfl ?_
    refine b_if_eq C 65 36 dX9_isWayRight_33 (by decide) rfl (fun c_33 => ?_) (fun c_33 => ?_)
    · exact absurd c_33 (by decide)
    · refine j_aload_n C dX9_isWayRight_36 rfl 37 rfl ?_
      refine j_iload C dX9_isWayRight_37 rfl 39 rfl ?_
      refine j_aload_n C dX9_isWayRight_39 rfl 40 rfl ?_
      refine gf_X9_36 C rfl rfl dX9_isWayRight_40 43 rfl ?_
      refine j_bipush (v := nI 8) C dX9_isWayRight_43 (by decide) 45 rfl ?_
      refine j_iload_n C dX9_isWayRight_45 rfl 46 rfl ?_
      refine n_imul C dX9_isWayRight_46 47 rfl ?_
      refine j_iconst (v := nI 5) C dX9_isWayRight_47 (by decide) 48 rfl ?_
      refine n_iadd C dX9_isWayRight_48 49 rfl ?_
      refine j_iald C rfl (by omega) (by decide) dX9_isWayRight_49 50 rfl ?_
      refine j_cv C (cs_X9_241 C (ct_X9_leaf (h - 1) (by omega)) rfl rfl (by omega) (by omega) (by omega) rfl (Nat.le_of_ble_eq_true rfl) dX9_isWayRight_50) 53 rfl ?_
      rintro _ ⟨w, rfl⟩
      refine j_aload_n C dX9_isWayRight_53 rfl 54 rfl ?_
      refine j_aload_n C dX9_isWayRight_54 rfl 55 rfl ?_
      refine gf_X9_178 C rfl rfl dX9_isWayRight_55 58 rfl ?_
      refine j_iconst (v := nI 0) C dX9_isWayRight_58 (by decide) 59 rfl ?_
      refine j_cv C (cs_X9_192 C (ct_X9_toRow (to := 56) (nt := 8) (at_ := 0) (h - 1) (by omega) rfl (by decide) (by decide) (by decide)) rfl rfl (by omega) (by omega) (by omega) rfl (Nat.le_of_ble_eq_true rfl) dX9_isWayRight_59) 62 rfl ?_
      rintro _ rfl
      rw [gl_wm_40, gl_wm_o (show (56 : Nat) ≠ 39 by decide) (by decide)]
      refine j_goto (tgt := 163) C dX9_isWayRight_62 (by decide) ?_
      exact partC _ (gl_leaf (I 10 (40 * s)) (I 9 (8 * s + 5))) true _ _ ((gl_fq.rf.wm (by decide) (by decide)).up (by decide) (by decide)) (fun t ht => by rw [gl_up_eq, gl_cpy_lt ht]) (by rw [gl_wR, if_neg (fun q => q.1 c_10), gl_wend, if_pos c_10])
