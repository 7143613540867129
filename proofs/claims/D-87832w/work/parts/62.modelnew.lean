/-! MODULE Model: the constructor (by gen62.py) -/
set_option maxRecDepth 100000
def gl_shm (m c : Nat) : Nat × Nat := if c ≤ m then gl_msh c else (0, 0)
def gl_Rm (m c k : Nat) : Option Nat := if c = 0 then (match gl_mrl.getD k none with | some j => if j ≤ m then some j else none | none => none) else none
theorem gl_getD_out {α : Type} {l : List α} {i : Nat} {d : α} (h : l.length ≤ i) : l.getD i d = d := by rw [List.getD_eq_getElem?_getD, List.getElem?_eq_none h]; rfl
theorem gl_shm_s {m : Nat} {q : Nat × Nat} (hq : gl_msh (m + 1) = q) : va_up (gl_shm m) (m + 1) q = gl_shm (m + 1) := by
  funext c
  unfold va_up gl_shm
  by_cases h : c = m + 1
  · subst h; rw [if_pos rfl, if_pos (Nat.le_refl _), hq]
  · rw [if_neg h]
    by_cases h2 : c ≤ m
    · rw [if_pos h2, if_pos (by omega)]
    · rw [if_neg h2, if_neg (by omega)]
theorem gl_up_const {α : Type} (a : α) (c : Nat) : va_up (fun _ _ : Nat => a) c (fun _ => a) = fun _ _ => a := by
  funext k j
  unfold va_up
  by_cases h : k = c <;> simp [h]
theorem gl_Rm_s {m k : Nat} (hk : gl_mrl.getD k none = some (m + 1)) (hu : (List.range 66).all (fun k' => gl_mrl.getD k' none != some (m + 1) || k' == k) = true) : gl_u2 (va_up (gl_Rm m) (m + 1) (fun _ => none)) 0 k (some (m + 1)) = gl_Rm (m + 1) := by
  funext c j
  by_cases hc : c = 0
  · subst hc
    rw [gl_u2_eq, gl_up_ne (show (0 : Nat) ≠ m + 1 by omega)]
    by_cases hj : j = k
    · subst hj
      rw [gl_up_eq]
      unfold gl_Rm
      rw [if_pos rfl, hk]
      simp
    · rw [gl_up_ne hj]
      unfold gl_Rm
      rw [if_pos rfl, if_pos rfl]
      cases hg : gl_mrl.getD j none with
      | none => rfl
      | some x =>
        have hx : x ≠ m + 1 := by
          rintro rfl
          have hl : j < 66 := by
            rcases Nat.lt_or_ge j 66 with h | h
            · exact h
            · rw [gl_getD_out (show gl_mrl.length ≤ j from h)] at hg
              cases hg
          have := List.all_eq_true.mp hu j (List.mem_range.mpr hl)
          rw [hg] at this
          simp [hj] at this
        show (if x ≤ m then some x else none) = (if x ≤ m + 1 then some x else none)
        by_cases h1 : x ≤ m
        · rw [if_pos h1, if_pos (by omega)]
        · rw [if_neg h1, if_neg (by omega)]
  · rw [gl_u2_ne hc]
    unfold va_up gl_Rm
    by_cases h : c = m + 1
    · simp [h]
    · simp [h, hc]
theorem gl_mkS {κ : gl_Kap} {nc ns pc : Nat} {ls : List (Option Value)} {st : List Value} {m k : Nat} {q : Nat × Nat} (hq : gl_msh (m + 1) = q) (hk : gl_mrl.getD k none = some (m + 1)) (hu : (List.range 66).all (fun k' => gl_mrl.getD k' none != some (m + 1) || k' == k) = true) (kk : gl_J κ nc ns ((m + 2, gl_shm (m + 1)), (fun _ _ => 0), (fun _ _ => 0), (fun _ _ => false), gl_Rm (m + 1)) pc ls st) : gl_J κ nc ns ((m + 1 + 1, va_up (gl_shm m) (m + 1) q), va_up (fun _ _ => 0) (m + 1) (fun _ => 0), va_up (fun _ _ => 0) (m + 1) (fun _ => 0), va_up (fun _ _ => false) (m + 1) (fun _ => false), gl_u2 (va_up (gl_Rm m) (m + 1) (fun _ => none)) 0 k (some (m + 1))) pc ls st := by
  rw [gl_shm_s hq, gl_up_const, gl_up_const, gl_up_const, gl_Rm_s hk hu]
  exact kk
theorem gl_shm_e : gl_shm 57 = gl_msh := by
  funext c
  unfold gl_shm
  by_cases h : c ≤ 57
  · rw [if_pos h]
  · rw [if_neg h]
    exact (gl_getD_out (show gl_mshl.length ≤ c by show 58 ≤ c; omega)).symm
theorem gl_mrl_le : ∀ k x, gl_mrl.getD k none = some x → x ≤ 57 := by
  intro k x h
  rcases Nat.lt_or_ge k 66 with hl | hl
  · have : (List.range 66).all (fun k' => (gl_mrl.getD k' none).all (fun x => decide (x ≤ 57))) = true := by decide
    have := List.all_eq_true.mp this k (List.mem_range.mpr hl)
    rw [h] at this
    simpa using this
  · rw [gl_getD_out (show gl_mrl.length ≤ k from hl)] at h
    cases h
theorem gl_Rm_e : gl_Rm 57 = gl_mR := by
  funext c k
  unfold gl_Rm gl_mR
  by_cases hc : c = 0
  · rw [if_pos hc, if_pos hc]
    cases hg : gl_mrl.getD k none with
    | none => rfl
    | some x => exact if_pos (gl_mrl_le k x hg)
  · rw [if_neg hc, if_neg hc]
theorem gl_Rm_0 : gl_Rm 0 = fun _ _ => none := by
  funext c k
  unfold gl_Rm
  by_cases hc : c = 0
  · rw [if_pos hc]
    cases hg : gl_mrl.getD k none with
    | none => rfl
    | some x =>
      have hx : x ≠ 0 := by
        rintro rfl
        rcases Nat.lt_or_ge k 66 with hl | hl
        · have : (List.range 66).all (fun k' => gl_mrl.getD k' none != some 0) = true := by decide
          have := List.all_eq_true.mp this k (List.mem_range.mpr hl)
          rw [hg] at this
          simp at this
        · rw [gl_getD_out (show gl_mrl.length ≤ k from hl)] at hg
          cases hg
      exact if_neg (by omega)
  · rw [if_neg hc]
set_option maxHeartbeats 4000000 in
set_option maxRecDepth 100000 in
theorem ct_X9_new {l : Launch} {δ : gl_Del}  (h : Nat) (hh : 1 ≤ h)  : gl_Ct l δ yX9_init (ws_ yX9_init cX9_init 1 none) (gl_rm h 57 121476) 57 121476 [.ref 0] ((1, gl_shm 0), (fun _ _ => 0), (fun _ _ => 0), (fun _ _ => false), gl_Rm 0) (gl_Qv fun S => S = (gl_mL, (fun _ _ => 0), (fun _ _ => 0), (fun _ _ => false), gl_mR)) := by
  refine gl_of (by decide) (Nat.le_of_ble_eq_true rfl) rfl ?_
  intro κ C hQ hlκ hδκ hnL hini
  change gl_Cx κ RX9 _ _ _ at C
  refine j_aload_n C dX9_init_0 rfl 1 rfl ?_
  refine j_objInit C q1190 q91 q92 (by omega) (Nat.le_of_ble_eq_true rfl) dX9_init_1 4 rfl ?_
  refine j_aload_n C dX9_init_4 rfl 5 rfl ?_
  refine j_bipush (v := nI 24) C dX9_init_5 (by decide) 7 rfl ?_
  refine j_newarrI C (by decide) (by decide) (by decide) dX9_init_7 9 rfl ?_
  refine pf_X9_9 C hini rfl dX9_init_9 12 rfl ?_
  refine gl_mkS (m := 0) (k := 0) rfl rfl (by decide) ?_
  refine j_aload_n C dX9_init_12 rfl 13 rfl ?_
  refine j_sipush (v := nI 2400) C dX9_init_13 (by decide) 16 rfl ?_
  refine j_newarrI C (by decide) (by decide) (by decide) dX9_init_16 18 rfl ?_
  refine pf_X9_13 C hini rfl dX9_init_18 21 rfl ?_
  refine gl_mkS (m := 1) (k := 2) rfl rfl (by decide) ?_
  refine j_aload_n C dX9_init_21 rfl 22 rfl ?_
  refine j_sipush (v := nI 2400) C dX9_init_22 (by decide) 25 rfl ?_
  refine j_newarrJ C (by decide) (by decide) (by decide) dX9_init_25 27 rfl ?_
  refine pf_X9_16 C hini rfl dX9_init_27 30 rfl ?_
  refine gl_mkS (m := 2) (k := 3) rfl rfl (by decide) ?_
  refine j_aload_n C dX9_init_30 rfl 31 rfl ?_
  refine j_sipush (v := nI 2400) C dX9_init_31 (by decide) 34 rfl ?_
  refine j_newarrZ C (by decide) (by decide) (by decide) dX9_init_34 36 rfl ?_
  refine pf_X9_20 C hini rfl dX9_init_36 39 rfl ?_
  refine gl_mkS (m := 3) (k := 4) rfl rfl (by decide) ?_
  refine j_aload_n C dX9_init_39 rfl 40 rfl ?_
  refine j_sipush (v := nI 2400) C dX9_init_40 (by decide) 43 rfl ?_
  refine j_newarrZ C (by decide) (by decide) (by decide) dX9_init_43 45 rfl ?_
  refine pf_X9_24 C hini rfl dX9_init_45 48 rfl ?_
  refine gl_mkS (m := 4) (k := 5) rfl rfl (by decide) ?_
  refine j_aload_n C dX9_init_48 rfl 49 rfl ?_
  refine j_sipush (v := nI 600) C dX9_init_49 (by decide) 52 rfl ?_
  refine j_newarrI C (by decide) (by decide) (by decide) dX9_init_52 54 rfl ?_
  refine pf_X9_27 C hini rfl dX9_init_54 57 rfl ?_
  refine gl_mkS (m := 5) (k := 6) rfl rfl (by decide) ?_
  refine j_aload_n C dX9_init_57 rfl 58 rfl ?_
  refine j_sipush (v := nI 600) C dX9_init_58 (by decide) 61 rfl ?_
  refine j_newarrI C (by decide) (by decide) (by decide) dX9_init_61 63 rfl ?_
  refine pf_X9_30 C hini rfl dX9_init_63 66 rfl ?_
  refine gl_mkS (m := 6) (k := 7) rfl rfl (by decide) ?_
  refine j_aload_n C dX9_init_66 rfl 67 rfl ?_
  refine j_sipush (v := nI 600) C dX9_init_67 (by decide) 70 rfl ?_
  refine j_newarrZ C (by decide) (by decide) (by decide) dX9_init_70 72 rfl ?_
  refine pf_X9_33 C hini rfl dX9_init_72 75 rfl ?_
  refine gl_mkS (m := 7) (k := 8) rfl rfl (by decide) ?_
  refine j_aload_n C dX9_init_75 rfl 76 rfl ?_
  refine j_sipush (v := nI 128) C dX9_init_76 (by decide) 79 rfl ?_
  refine j_newarrI C (by decide) (by decide) (by decide) dX9_init_79 81 rfl ?_
  refine pf_X9_36 C hini rfl dX9_init_81 84 rfl ?_
  refine gl_mkS (m := 8) (k := 9) rfl rfl (by decide) ?_
  refine j_aload_n C dX9_init_84 rfl 85 rfl ?_
  refine j_sipush (v := nI 640) C dX9_init_85 (by decide) 88 rfl ?_
  refine j_newarrI C (by decide) (by decide) (by decide) dX9_init_88 90 rfl ?_
  refine pf_X9_39 C hini rfl dX9_init_90 93 rfl ?_
  refine gl_mkS (m := 9) (k := 10) rfl rfl (by decide) ?_
  refine j_aload_n C dX9_init_93 rfl 94 rfl ?_
  refine j_sipush (v := nI 640) C dX9_init_94 (by decide) 97 rfl ?_
  refine j_newarrJ C (by decide) (by decide) (by decide) dX9_init_97 99 rfl ?_
  refine pf_X9_42 C hini rfl dX9_init_99 102 rfl ?_
  refine gl_mkS (m := 10) (k := 11) rfl rfl (by decide) ?_
  refine j_aload_n C dX9_init_102 rfl 103 rfl ?_
  refine j_ldc C q1191 dX9_init_103 105 rfl ?_
  rw [show (32768 : Int32) = nI 32768 from rfl]
  refine j_newarrI C (by decide) (by decide) (by decide) dX9_init_105 107 rfl ?_
  refine pf_X9_46 C hini rfl dX9_init_107 110 rfl ?_
  refine gl_mkS (m := 11) (k := 12) rfl rfl (by decide) ?_
  refine j_aload_n C dX9_init_110 rfl 111 rfl ?_
  refine j_sipush (v := nI 336) C dX9_init_111 (by decide) 114 rfl ?_
  refine j_newarrI C (by decide) (by decide) (by decide) dX9_init_114 116 rfl ?_
  refine pf_X9_49 C hini rfl dX9_init_116 119 rfl ?_
  refine gl_mkS (m := 12) (k := 13) rfl rfl (by decide) ?_
  refine j_aload_n C dX9_init_119 rfl 120 rfl ?_
  refine j_bipush (v := nI 12) C dX9_init_120 (by decide) 122 rfl ?_
  refine j_newarrZ C (by decide) (by decide) (by decide) dX9_init_122 124 rfl ?_
  refine pf_X9_52 C hini rfl dX9_init_124 127 rfl ?_
  refine gl_mkS (m := 13) (k := 14) rfl rfl (by decide) ?_
  refine j_aload_n C dX9_init_127 rfl 128 rfl ?_
  refine j_sipush (v := nI 3360) C dX9_init_128 (by decide) 131 rfl ?_
  refine j_newarrI C (by decide) (by decide) (by decide) dX9_init_131 133 rfl ?_
  refine pf_X9_55 C hini rfl dX9_init_133 136 rfl ?_
  refine gl_mkS (m := 14) (k := 15) rfl rfl (by decide) ?_
  refine j_aload_n C dX9_init_136 rfl 137 rfl ?_
  refine j_bipush (v := nI 40) C dX9_init_137 (by decide) 139 rfl ?_
  refine j_newarrI C (by decide) (by decide) (by decide) dX9_init_139 141 rfl ?_
  refine pf_X9_58 C hini rfl dX9_init_141 144 rfl ?_
  refine gl_mkS (m := 15) (k := 17) rfl rfl (by decide) ?_
  refine j_aload_n C dX9_init_144 rfl 145 rfl ?_
  refine j_bipush (v := nI 8) C dX9_init_145 (by decide) 147 rfl ?_
  refine j_newarrZ C (by decide) (by decide) (by decide) dX9_init_147 149 rfl ?_
  refine pf_X9_61 C hini rfl dX9_init_149 152 rfl ?_
  refine gl_mkS (m := 16) (k := 18) rfl rfl (by decide) ?_
  refine j_aload_n C dX9_init_152 rfl 153 rfl ?_
  refine j_sipush (v := nI 3200) C dX9_init_153 (by decide) 156 rfl ?_
  refine j_newarrI C (by decide) (by decide) (by decide) dX9_init_156 158 rfl ?_
  refine pf_X9_64 C hini rfl dX9_init_158 161 rfl ?_
  refine gl_mkS (m := 17) (k := 19) rfl rfl (by decide) ?_
  refine j_aload_n C dX9_init_161 rfl 162 rfl ?_
  refine j_sipush (v := nI 3200) C dX9_init_162 (by decide) 165 rfl ?_
  refine j_newarrI C (by decide) (by decide) (by decide) dX9_init_165 167 rfl ?_
  refine pf_X9_67 C hini rfl dX9_init_167 170 rfl ?_
  refine gl_mkS (m := 18) (k := 20) rfl rfl (by decide) ?_
  refine j_aload_n C dX9_init_170 rfl 171 rfl ?_
  refine j_bipush (v := nI 24) C dX9_init_171 (by decide) 173 rfl ?_
  refine j_newarrI C (by decide) (by decide) (by decide) dX9_init_173 175 rfl ?_
  refine pf_X9_70 C hini rfl dX9_init_175 178 rfl ?_
  refine gl_mkS (m := 19) (k := 22) rfl rfl (by decide) ?_
  refine j_aload_n C dX9_init_178 rfl 179 rfl ?_
  refine j_sipush (v := nI 2400) C dX9_init_179 (by decide) 182 rfl ?_
  refine j_newarrI C (by decide) (by decide) (by decide) dX9_init_182 184 rfl ?_
  refine pf_X9_73 C hini rfl dX9_init_184 187 rfl ?_
  refine gl_mkS (m := 20) (k := 24) rfl rfl (by decide) ?_
  refine j_aload_n C dX9_init_187 rfl 188 rfl ?_
  refine j_sipush (v := nI 2400) C dX9_init_188 (by decide) 191 rfl ?_
  refine j_newarrJ C (by decide) (by decide) (by decide) dX9_init_191 193 rfl ?_
  refine pf_X9_76 C hini rfl dX9_init_193 196 rfl ?_
  refine gl_mkS (m := 21) (k := 25) rfl rfl (by decide) ?_
  refine j_aload_n C dX9_init_196 rfl 197 rfl ?_
  refine j_sipush (v := nI 2400) C dX9_init_197 (by decide) 200 rfl ?_
  refine j_newarrZ C (by decide) (by decide) (by decide) dX9_init_200 202 rfl ?_
  refine pf_X9_79 C hini rfl dX9_init_202 205 rfl ?_
  refine gl_mkS (m := 22) (k := 26) rfl rfl (by decide) ?_
  refine j_aload_n C dX9_init_205 rfl 206 rfl ?_
  refine j_sipush (v := nI 2400) C dX9_init_206 (by decide) 209 rfl ?_
  refine j_newarrZ C (by decide) (by decide) (by decide) dX9_init_209 211 rfl ?_
  refine pf_X9_82 C hini rfl dX9_init_211 214 rfl ?_
  refine gl_mkS (m := 23) (k := 27) rfl rfl (by decide) ?_
  refine j_aload_n C dX9_init_214 rfl 215 rfl ?_
  refine j_sipush (v := nI 600) C dX9_init_215 (by decide) 218 rfl ?_
  refine j_newarrI C (by decide) (by decide) (by decide) dX9_init_218 220 rfl ?_
  refine pf_X9_85 C hini rfl dX9_init_220 223 rfl ?_
  refine gl_mkS (m := 24) (k := 28) rfl rfl (by decide) ?_
  refine j_aload_n C dX9_init_223 rfl 224 rfl ?_
  refine j_sipush (v := nI 600) C dX9_init_224 (by decide) 227 rfl ?_
  refine j_newarrI C (by decide) (by decide) (by decide) dX9_init_227 229 rfl ?_
  refine pf_X9_88 C hini rfl dX9_init_229 232 rfl ?_
  refine gl_mkS (m := 25) (k := 29) rfl rfl (by decide) ?_
  refine j_aload_n C dX9_init_232 rfl 233 rfl ?_
  refine j_sipush (v := nI 600) C dX9_init_233 (by decide) 236 rfl ?_
  refine j_newarrZ C (by decide) (by decide) (by decide) dX9_init_236 238 rfl ?_
  refine pf_X9_91 C hini rfl dX9_init_238 241 rfl ?_
  refine gl_mkS (m := 26) (k := 30) rfl rfl (by decide) ?_
  refine j_aload_n C dX9_init_241 rfl 242 rfl ?_
  refine j_sipush (v := nI 128) C dX9_init_242 (by decide) 245 rfl ?_
  refine j_newarrI C (by decide) (by decide) (by decide) dX9_init_245 247 rfl ?_
  refine pf_X9_94 C hini rfl dX9_init_247 250 rfl ?_
  refine gl_mkS (m := 27) (k := 31) rfl rfl (by decide) ?_
  refine j_aload_n C dX9_init_250 rfl 251 rfl ?_
  refine j_sipush (v := nI 640) C dX9_init_251 (by decide) 254 rfl ?_
  refine j_newarrI C (by decide) (by decide) (by decide) dX9_init_254 256 rfl ?_
  refine pf_X9_97 C hini rfl dX9_init_256 259 rfl ?_
  refine gl_mkS (m := 28) (k := 32) rfl rfl (by decide) ?_
  refine j_aload_n C dX9_init_259 rfl 260 rfl ?_
  refine j_sipush (v := nI 640) C dX9_init_260 (by decide) 263 rfl ?_
  refine j_newarrJ C (by decide) (by decide) (by decide) dX9_init_263 265 rfl ?_
  refine pf_X9_100 C hini rfl dX9_init_265 268 rfl ?_
  refine gl_mkS (m := 29) (k := 33) rfl rfl (by decide) ?_
  refine j_aload_n C dX9_init_268 rfl 269 rfl ?_
  refine j_ldc C q1191 dX9_init_269 271 rfl ?_
  rw [show (32768 : Int32) = nI 32768 from rfl]
  refine j_newarrI C (by decide) (by decide) (by decide) dX9_init_271 273 rfl ?_
  refine pf_X9_103 C hini rfl dX9_init_273 276 rfl ?_
  refine gl_mkS (m := 30) (k := 34) rfl rfl (by decide) ?_
  refine j_aload_n C dX9_init_276 rfl 277 rfl ?_
  refine j_sipush (v := nI 336) C dX9_init_277 (by decide) 280 rfl ?_
  refine j_newarrI C (by decide) (by decide) (by decide) dX9_init_280 282 rfl ?_
  refine pf_X9_106 C hini rfl dX9_init_282 285 rfl ?_
  refine gl_mkS (m := 31) (k := 35) rfl rfl (by decide) ?_
  refine j_aload_n C dX9_init_285 rfl 286 rfl ?_
  refine j_bipush (v := nI 12) C dX9_init_286 (by decide) 288 rfl ?_
  refine j_newarrZ C (by decide) (by decide) (by decide) dX9_init_288 290 rfl ?_
  refine pf_X9_109 C hini rfl dX9_init_290 293 rfl ?_
  refine gl_mkS (m := 32) (k := 36) rfl rfl (by decide) ?_
  refine j_aload_n C dX9_init_293 rfl 294 rfl ?_
  refine j_sipush (v := nI 3360) C dX9_init_294 (by decide) 297 rfl ?_
  refine j_newarrI C (by decide) (by decide) (by decide) dX9_init_297 299 rfl ?_
  refine pf_X9_112 C hini rfl dX9_init_299 302 rfl ?_
  refine gl_mkS (m := 33) (k := 37) rfl rfl (by decide) ?_
  refine j_aload_n C dX9_init_302 rfl 303 rfl ?_
  refine j_bipush (v := nI 40) C dX9_init_303 (by decide) 305 rfl ?_
  refine j_newarrI C (by decide) (by decide) (by decide) dX9_init_305 307 rfl ?_
  refine pf_X9_115 C hini rfl dX9_init_307 310 rfl ?_
  refine gl_mkS (m := 34) (k := 39) rfl rfl (by decide) ?_
  refine j_aload_n C dX9_init_310 rfl 311 rfl ?_
  refine j_bipush (v := nI 8) C dX9_init_311 (by decide) 313 rfl ?_
  refine j_newarrZ C (by decide) (by decide) (by decide) dX9_init_313 315 rfl ?_
  refine pf_X9_118 C hini rfl dX9_init_315 318 rfl ?_
  refine gl_mkS (m := 35) (k := 40) rfl rfl (by decide) ?_
  refine j_aload_n C dX9_init_318 rfl 319 rfl ?_
  refine j_sipush (v := nI 3200) C dX9_init_319 (by decide) 322 rfl ?_
  refine j_newarrI C (by decide) (by decide) (by decide) dX9_init_322 324 rfl ?_
  refine pf_X9_121 C hini rfl dX9_init_324 327 rfl ?_
  refine gl_mkS (m := 36) (k := 41) rfl rfl (by decide) ?_
  refine j_aload_n C dX9_init_327 rfl 328 rfl ?_
  refine j_sipush (v := nI 3200) C dX9_init_328 (by decide) 331 rfl ?_
  refine j_newarrI C (by decide) (by decide) (by decide) dX9_init_331 333 rfl ?_
  refine pf_X9_124 C hini rfl dX9_init_333 336 rfl ?_
  refine gl_mkS (m := 37) (k := 42) rfl rfl (by decide) ?_
  refine j_aload_n C dX9_init_336 rfl 337 rfl ?_
  refine j_bipush (v := nI 24) C dX9_init_337 (by decide) 339 rfl ?_
  refine j_newarrI C (by decide) (by decide) (by decide) dX9_init_339 341 rfl ?_
  refine pf_X9_127 C hini rfl dX9_init_341 344 rfl ?_
  refine gl_mkS (m := 38) (k := 43) rfl rfl (by decide) ?_
  refine j_aload_n C dX9_init_344 rfl 345 rfl ?_
  refine j_bipush (v := nI 8) C dX9_init_345 (by decide) 347 rfl ?_
  refine j_newarrI C (by decide) (by decide) (by decide) dX9_init_347 349 rfl ?_
  refine pf_X9_130 C hini rfl dX9_init_349 352 rfl ?_
  refine gl_mkS (m := 39) (k := 44) rfl rfl (by decide) ?_
  refine j_aload_n C dX9_init_352 rfl 353 rfl ?_
  refine j_sipush (v := nI 256) C dX9_init_353 (by decide) 356 rfl ?_
  refine j_newarrI C (by decide) (by decide) (by decide) dX9_init_356 358 rfl ?_
  refine pf_X9_133 C hini rfl dX9_init_358 361 rfl ?_
  refine gl_mkS (m := 40) (k := 45) rfl rfl (by decide) ?_
  refine j_aload_n C dX9_init_361 rfl 362 rfl ?_
  refine j_bipush (v := nI 64) C dX9_init_362 (by decide) 364 rfl ?_
  refine j_newarrI C (by decide) (by decide) (by decide) dX9_init_364 366 rfl ?_
  refine pf_X9_136 C hini rfl dX9_init_366 369 rfl ?_
  refine gl_mkS (m := 41) (k := 46) rfl rfl (by decide) ?_
  refine j_aload_n C dX9_init_369 rfl 370 rfl ?_
  refine j_bipush (v := nI 64) C dX9_init_370 (by decide) 372 rfl ?_
  refine j_newarrI C (by decide) (by decide) (by decide) dX9_init_372 374 rfl ?_
  refine pf_X9_139 C hini rfl dX9_init_374 377 rfl ?_
  refine gl_mkS (m := 42) (k := 47) rfl rfl (by decide) ?_
  refine j_aload_n C dX9_init_377 rfl 378 rfl ?_
  refine j_sipush (v := nI 512) C dX9_init_378 (by decide) 381 rfl ?_
  refine j_newarrI C (by decide) (by decide) (by decide) dX9_init_381 383 rfl ?_
  refine pf_X9_142 C hini rfl dX9_init_383 386 rfl ?_
  refine gl_mkS (m := 43) (k := 48) rfl rfl (by decide) ?_
  refine j_aload_n C dX9_init_386 rfl 387 rfl ?_
  refine j_bipush (v := nI 8) C dX9_init_387 (by decide) 389 rfl ?_
  refine j_newarrI C (by decide) (by decide) (by decide) dX9_init_389 391 rfl ?_
  refine pf_X9_145 C hini rfl dX9_init_391 394 rfl ?_
  refine gl_mkS (m := 44) (k := 50) rfl rfl (by decide) ?_
  refine j_aload_n C dX9_init_394 rfl 395 rfl ?_
  refine j_bipush (v := nI 8) C dX9_init_395 (by decide) 397 rfl ?_
  refine j_newarrI C (by decide) (by decide) (by decide) dX9_init_397 399 rfl ?_
  refine pf_X9_148 C hini rfl dX9_init_399 402 rfl ?_
  refine gl_mkS (m := 45) (k := 51) rfl rfl (by decide) ?_
  refine j_aload_n C dX9_init_402 rfl 403 rfl ?_
  refine j_sipush (v := nI 400) C dX9_init_403 (by decide) 406 rfl ?_
  refine j_newarrI C (by decide) (by decide) (by decide) dX9_init_406 408 rfl ?_
  refine pf_X9_151 C hini rfl dX9_init_408 411 rfl ?_
  refine gl_mkS (m := 46) (k := 52) rfl rfl (by decide) ?_
  refine j_aload_n C dX9_init_411 rfl 412 rfl ?_
  refine j_sipush (v := nI 400) C dX9_init_412 (by decide) 415 rfl ?_
  refine j_newarrI C (by decide) (by decide) (by decide) dX9_init_415 417 rfl ?_
  refine pf_X9_154 C hini rfl dX9_init_417 420 rfl ?_
  refine gl_mkS (m := 47) (k := 53) rfl rfl (by decide) ?_
  refine j_aload_n C dX9_init_420 rfl 421 rfl ?_
  refine j_sipush (v := nI 3200) C dX9_init_421 (by decide) 424 rfl ?_
  refine j_newarrI C (by decide) (by decide) (by decide) dX9_init_424 426 rfl ?_
  refine pf_X9_157 C hini rfl dX9_init_426 429 rfl ?_
  refine gl_mkS (m := 48) (k := 54) rfl rfl (by decide) ?_
  refine j_aload_n C dX9_init_429 rfl 430 rfl ?_
  refine j_sipush (v := nI 400) C dX9_init_430 (by decide) 433 rfl ?_
  refine j_newarrI C (by decide) (by decide) (by decide) dX9_init_433 435 rfl ?_
  refine pf_X9_160 C hini rfl dX9_init_435 438 rfl ?_
  refine gl_mkS (m := 49) (k := 55) rfl rfl (by decide) ?_
  refine j_aload_n C dX9_init_438 rfl 439 rfl ?_
  refine j_sipush (v := nI 400) C dX9_init_439 (by decide) 442 rfl ?_
  refine j_newarrI C (by decide) (by decide) (by decide) dX9_init_442 444 rfl ?_
  refine pf_X9_163 C hini rfl dX9_init_444 447 rfl ?_
  refine gl_mkS (m := 50) (k := 56) rfl rfl (by decide) ?_
  refine j_aload_n C dX9_init_447 rfl 448 rfl ?_
  refine j_sipush (v := nI 4160) C dX9_init_448 (by decide) 451 rfl ?_
  refine j_newarrI C (by decide) (by decide) (by decide) dX9_init_451 453 rfl ?_
  refine pf_X9_166 C hini rfl dX9_init_453 456 rfl ?_
  refine gl_mkS (m := 51) (k := 58) rfl rfl (by decide) ?_
  refine j_aload_n C dX9_init_456 rfl 457 rfl ?_
  refine j_bipush (v := nI 28) C dX9_init_457 (by decide) 459 rfl ?_
  refine j_newarrI C (by decide) (by decide) (by decide) dX9_init_459 461 rfl ?_
  refine pf_X9_169 C hini rfl dX9_init_461 464 rfl ?_
  refine gl_mkS (m := 52) (k := 59) rfl rfl (by decide) ?_
  refine j_aload_n C dX9_init_464 rfl 465 rfl ?_
  refine j_bipush (v := nI 8) C dX9_init_465 (by decide) 467 rfl ?_
  refine j_newarrI C (by decide) (by decide) (by decide) dX9_init_467 469 rfl ?_
  refine pf_X9_172 C hini rfl dX9_init_469 472 rfl ?_
  refine gl_mkS (m := 53) (k := 60) rfl rfl (by decide) ?_
  refine j_aload_n C dX9_init_472 rfl 473 rfl ?_
  refine j_bipush (v := nI 8) C dX9_init_473 (by decide) 475 rfl ?_
  refine j_newarrI C (by decide) (by decide) (by decide) dX9_init_475 477 rfl ?_
  refine pf_X9_175 C hini rfl dX9_init_477 480 rfl ?_
  refine gl_mkS (m := 54) (k := 61) rfl rfl (by decide) ?_
  refine j_aload_n C dX9_init_480 rfl 481 rfl ?_
  refine j_bipush (v := nI 8) C dX9_init_481 (by decide) 483 rfl ?_
  refine j_newarrI C (by decide) (by decide) (by decide) dX9_init_483 485 rfl ?_
  refine pf_X9_178 C hini rfl dX9_init_485 488 rfl ?_
  refine gl_mkS (m := 55) (k := 64) rfl rfl (by decide) ?_
  refine j_aload_n C dX9_init_488 rfl 489 rfl ?_
  refine j_bipush (v := nI 8) C dX9_init_489 (by decide) 491 rfl ?_
  refine j_newarrI C (by decide) (by decide) (by decide) dX9_init_491 493 rfl ?_
  refine pf_X9_181 C hini rfl dX9_init_493 496 rfl ?_
  refine gl_mkS (m := 56) (k := 65) rfl rfl (by decide) ?_
  exact j_ret C hQ (by rw [gl_shm_e, gl_Rm_e]; rfl) (by decide) (by decide) dX9_init_496
