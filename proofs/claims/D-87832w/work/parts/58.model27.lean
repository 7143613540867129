/-! MODULE Model, the house: image, back (by gen58.py) -/
set_option maxRecDepth 100000
/-- all rows but those of X are as they were -/
def gl_fg {α : Type} (X : List Nat) (f f' : Nat → Nat → α) : Prop := ∀ c, c ∉ X → f' c = f c
theorem gl_fg.rf {α : Type} {X : List Nat} {f : Nat → Nat → α} : gl_fg X f f := fun _ _ => rfl
theorem gl_fg.up {α : Type} {X : List Nat} {f g : Nat → Nat → α} {c : Nat} {r : Nat → α} (h : gl_fg X f g) (hc : c ∈ X) : gl_fg X f (va_up g c r) := fun d hd => by rw [gl_up_ne (show d ≠ c from fun q => hd (by rw [q]; exact hc))]; exact h d hd
def gl_imP (I I' : Nat → Nat → Int32) (L L' : Nat → Nat → Int64) (B B' : Nat → Nat → Bool) : Prop := gl_fq [20, 21, 25, 26, 28, 29, 31, 32, 34, 35, 37, 38] [23, 38] I I' ∧ gl_fg [22, 30] L L' ∧ gl_fg (0 :: [23, 24, 27, 33, 36]) B B' ∧ I' 0 23 = I 0 1 ∧ I' 0 38 = I 0 16 ∧ B' 0 = va_up (B 0) 21 true ∧ I' 20 = va_cpy (I 1) (I 20) 0 0 24 ∧ I' 21 = va_cpy (I 2) (I 21) 0 0 2400 ∧ I' 25 = va_cpy (I 6) (I 25) 0 0 600 ∧ I' 26 = va_cpy (I 7) (I 26) 0 0 600 ∧ I' 28 = va_cpy (I 9) (I 28) 0 0 128 ∧ I' 29 = va_cpy (I 10) (I 29) 0 0 640 ∧ I' 31 = va_cpy (I 12) (I 31) 0 0 32768 ∧ I' 32 = va_cpy (I 13) (I 32) 0 0 336 ∧ I' 34 = va_cpy (I 15) (I 34) 0 0 3360 ∧ I' 35 = va_cpy (I 16) (I 35) 0 0 40 ∧ I' 37 = va_cpy (I 18) (I 37) 0 0 3200 ∧ I' 38 = va_cpy (I 19) (I 38) 0 0 3200 ∧ L' 22 = va_cpy (L 3) (L 22) 0 0 2400 ∧ L' 30 = va_cpy (L 11) (L 30) 0 0 640 ∧ B' 23 = va_cpy (B 4) (B 23) 0 0 2400 ∧ B' 24 = va_cpy (B 5) (B 24) 0 0 2400 ∧ B' 27 = va_cpy (B 8) (B 27) 0 0 600 ∧ B' 33 = va_cpy (B 14) (B 33) 0 0 12 ∧ B' 36 = va_cpy (B 17) (B 36) 0 0 8
def gl_bkP (I I' : Nat → Nat → Int32) (L L' : Nat → Nat → Int64) (B B' : Nat → Nat → Bool) : Prop := gl_fq [1, 2, 6, 7, 9, 10, 12, 13, 15, 16, 18, 19] [1, 16] I I' ∧ gl_fg [3, 11] L L' ∧ gl_fg [4, 5, 8, 14, 17] B B' ∧ I' 0 1 = I 0 23 ∧ I' 0 16 = I 0 38 ∧ I' 1 = va_cpy (I 20) (I 1) 0 0 24 ∧ I' 2 = va_cpy (I 21) (I 2) 0 0 2400 ∧ I' 6 = va_cpy (I 25) (I 6) 0 0 600 ∧ I' 7 = va_cpy (I 26) (I 7) 0 0 600 ∧ I' 9 = va_cpy (I 28) (I 9) 0 0 128 ∧ I' 10 = va_cpy (I 29) (I 10) 0 0 640 ∧ I' 12 = va_cpy (I 31) (I 12) 0 0 32768 ∧ I' 13 = va_cpy (I 32) (I 13) 0 0 336 ∧ I' 15 = va_cpy (I 34) (I 15) 0 0 3360 ∧ I' 16 = va_cpy (I 35) (I 16) 0 0 40 ∧ I' 18 = va_cpy (I 37) (I 18) 0 0 3200 ∧ I' 19 = va_cpy (I 38) (I 19) 0 0 3200 ∧ L' 3 = va_cpy (L 22) (L 3) 0 0 2400 ∧ L' 11 = va_cpy (L 30) (L 11) 0 0 640 ∧ B' 4 = va_cpy (B 23) (B 4) 0 0 2400 ∧ B' 5 = va_cpy (B 24) (B 5) 0 0 2400 ∧ B' 8 = va_cpy (B 27) (B 8) 0 0 600 ∧ B' 14 = va_cpy (B 33) (B 14) 0 0 12 ∧ B' 17 = va_cpy (B 36) (B 17) 0 0 8
set_option maxHeartbeats 4000000 in
set_option maxRecDepth 100000 in
theorem ct_X9_image {l : Launch} {δ : gl_Del} {I : Nat → Nat → Int32} {L : Nat → Nat → Int64} {B : Nat → Nat → Bool} (h : Nat) (hh : 2 ≤ h)  : gl_Ct l δ yX9_image (ws_ yX9_image cX9_image 1 ((some FieldType.boolean))) (gl_rm h 0 0) 0 0 [.ref 0] (gl_mL, I, L, B, gl_mR) (gl_Qi fun r S => r = b2i true ∧ ∃ I' L' B', S = (gl_mL, I', L', B', gl_mR) ∧ gl_imP I I' L L' B B') := by
  refine gl_of (by decide) (Nat.le_of_ble_eq_true rfl) rfl ?_
  intro κ C hQ hlκ hδκ hnL hini
  change gl_Cx κ RX9 _ _ _ at C
  refine j_aload_n C dX9_image_0 rfl 1 rfl ?_
  refine j_iconst (v := b2i true) C dX9_image_1 (by decide) 2 rfl ?_
  refine pf_X9_356 C rfl dX9_image_2 5 rfl ?_
  refine j_aload_n C dX9_image_5 rfl 6 rfl ?_
  refine j_aload_n C dX9_image_6 rfl 7 rfl ?_
  refine gf_X9_267 C rfl dX9_image_7 10 rfl ?_
  refine pf_X9_360 C rfl dX9_image_10 13 rfl ?_
  refine j_aload_n C dX9_image_13 rfl 14 rfl ?_
  refine j_aload_n C dX9_image_14 rfl 15 rfl ?_
  refine gf_X9_336 C rfl dX9_image_15 18 rfl ?_
  refine pf_X9_363 C rfl dX9_image_18 21 rfl ?_
  refine j_aload_n C dX9_image_21 rfl 22 rfl ?_
  refine gf_X9_9 C rfl rfl dX9_image_22 25 rfl ?_
  refine j_aload_n C dX9_image_25 rfl 26 rfl ?_
  refine gf_X9_70 C rfl rfl dX9_image_26 29 rfl ?_
  refine j_cv C (cs_X9_366 C (ct_X9_ints (Λ := gl_mL) (R := gl_mR) (x := 1) (y := 20) (n := 24) (h - 1) (by omega) rfl rfl (by decide) (by decide)) rfl (by omega) (by omega) (by omega) rfl (Nat.le_of_ble_eq_true rfl) dX9_image_29) 32 rfl ?_
  rintro _ rfl
  refine j_aload_n C dX9_image_32 rfl 33 rfl ?_
  refine gf_X9_13 C rfl rfl dX9_image_33 36 rfl ?_
  refine j_aload_n C dX9_image_36 rfl 37 rfl ?_
  refine gf_X9_73 C rfl rfl dX9_image_37 40 rfl ?_
  refine j_cv C (cs_X9_366 C (ct_X9_ints (Λ := gl_mL) (R := gl_mR) (x := 2) (y := 21) (n := 2400) (h - 1) (by omega) rfl rfl (by decide) (by decide)) rfl (by omega) (by omega) (by omega) rfl (Nat.le_of_ble_eq_true rfl) dX9_image_40) 43 rfl ?_
  rintro _ rfl
  refine j_aload_n C dX9_image_43 rfl 44 rfl ?_
  refine gf_X9_16 C rfl rfl dX9_image_44 47 rfl ?_
  refine j_aload_n C dX9_image_47 rfl 48 rfl ?_
  refine gf_X9_76 C rfl rfl dX9_image_48 51 rfl ?_
  refine j_cv C (cs_X9_370 C (ct_X9_longs (Λ := gl_mL) (R := gl_mR) (x := 3) (y := 22) (n := 2400) (h - 1) (by omega) rfl rfl (by decide) (by decide)) rfl (by omega) (by omega) (by omega) rfl (Nat.le_of_ble_eq_true rfl) dX9_image_51) 54 rfl ?_
  rintro _ rfl
  refine j_aload_n C dX9_image_54 rfl 55 rfl ?_
  refine gf_X9_20 C rfl rfl dX9_image_55 58 rfl ?_
  refine j_aload_n C dX9_image_58 rfl 59 rfl ?_
  refine gf_X9_79 C rfl rfl dX9_image_59 62 rfl ?_
  refine j_cv C (cs_X9_374 C (ct_X9_truths (Λ := gl_mL) (R := gl_mR) (x := 4) (y := 23) (n := 2400) (h - 1) (by omega) rfl rfl (by decide) (by decide)) rfl (by omega) (by omega) (by omega) rfl (Nat.le_of_ble_eq_true rfl) dX9_image_62) 65 rfl ?_
  rintro _ rfl
  refine j_aload_n C dX9_image_65 rfl 66 rfl ?_
  refine gf_X9_24 C rfl rfl dX9_image_66 69 rfl ?_
  refine j_aload_n C dX9_image_69 rfl 70 rfl ?_
  refine gf_X9_82 C rfl rfl dX9_image_70 73 rfl ?_
  refine j_cv C (cs_X9_374 C (ct_X9_truths (Λ := gl_mL) (R := gl_mR) (x := 5) (y := 24) (n := 2400) (h - 1) (by omega) rfl rfl (by decide) (by decide)) rfl (by omega) (by omega) (by omega) rfl (Nat.le_of_ble_eq_true rfl) dX9_image_73) 76 rfl ?_
  rintro _ rfl
  refine j_aload_n C dX9_image_76 rfl 77 rfl ?_
  refine gf_X9_27 C rfl rfl dX9_image_77 80 rfl ?_
  refine j_aload_n C dX9_image_80 rfl 81 rfl ?_
  refine gf_X9_85 C rfl rfl dX9_image_81 84 rfl ?_
  refine j_cv C (cs_X9_366 C (ct_X9_ints (Λ := gl_mL) (R := gl_mR) (x := 6) (y := 25) (n := 600) (h - 1) (by omega) rfl rfl (by decide) (by decide)) rfl (by omega) (by omega) (by omega) rfl (Nat.le_of_ble_eq_true rfl) dX9_image_84) 87 rfl ?_
  rintro _ rfl
  refine j_aload_n C dX9_image_87 rfl 88 rfl ?_
  refine gf_X9_30 C rfl rfl dX9_image_88 91 rfl ?_
  refine j_aload_n C dX9_image_91 rfl 92 rfl ?_
  refine gf_X9_88 C rfl rfl dX9_image_92 95 rfl ?_
  refine j_cv C (cs_X9_366 C (ct_X9_ints (Λ := gl_mL) (R := gl_mR) (x := 7) (y := 26) (n := 600) (h - 1) (by omega) rfl rfl (by decide) (by decide)) rfl (by omega) (by omega) (by omega) rfl (Nat.le_of_ble_eq_true rfl) dX9_image_95) 98 rfl ?_
  rintro _ rfl
  refine j_aload_n C dX9_image_98 rfl 99 rfl ?_
  refine gf_X9_33 C rfl rfl dX9_image_99 102 rfl ?_
  refine j_aload_n C dX9_image_102 rfl 103 rfl ?_
  refine gf_X9_91 C rfl rfl dX9_image_103 106 rfl ?_
  refine j_cv C (cs_X9_374 C (ct_X9_truths (Λ := gl_mL) (R := gl_mR) (x := 8) (y := 27) (n := 600) (h - 1) (by omega) rfl rfl (by decide) (by decide)) rfl (by omega) (by omega) (by omega) rfl (Nat.le_of_ble_eq_true rfl) dX9_image_106) 109 rfl ?_
  rintro _ rfl
  refine j_aload_n C dX9_image_109 rfl 110 rfl ?_
  refine gf_X9_36 C rfl rfl dX9_image_110 113 rfl ?_
  refine j_aload_n C dX9_image_113 rfl 114 rfl ?_
  refine gf_X9_94 C rfl rfl dX9_image_114 117 rfl ?_
  refine j_cv C (cs_X9_366 C (ct_X9_ints (Λ := gl_mL) (R := gl_mR) (x := 9) (y := 28) (n := 128) (h - 1) (by omega) rfl rfl (by decide) (by decide)) rfl (by omega) (by omega) (by omega) rfl (Nat.le_of_ble_eq_true rfl) dX9_image_117) 120 rfl ?_
  rintro _ rfl
  refine j_aload_n C dX9_image_120 rfl 121 rfl ?_
  refine gf_X9_39 C rfl rfl dX9_image_121 124 rfl ?_
  refine j_aload_n C dX9_image_124 rfl 125 rfl ?_
  refine gf_X9_97 C rfl rfl dX9_image_125 128 rfl ?_
  refine j_cv C (cs_X9_366 C (ct_X9_ints (Λ := gl_mL) (R := gl_mR) (x := 10) (y := 29) (n := 640) (h - 1) (by omega) rfl rfl (by decide) (by decide)) rfl (by omega) (by omega) (by omega) rfl (Nat.le_of_ble_eq_true rfl) dX9_image_128) 131 rfl ?_
  rintro _ rfl
  refine j_aload_n C dX9_image_131 rfl 132 rfl ?_
  refine gf_X9_42 C rfl rfl dX9_image_132 135 rfl ?_
  refine j_aload_n C dX9_image_135 rfl 136 rfl ?_
  refine gf_X9_100 C rfl rfl dX9_image_136 139 rfl ?_
  refine j_cv C (cs_X9_370 C (ct_X9_longs (Λ := gl_mL) (R := gl_mR) (x := 11) (y := 30) (n := 640) (h - 1) (by omega) rfl rfl (by decide) (by decide)) rfl (by omega) (by omega) (by omega) rfl (Nat.le_of_ble_eq_true rfl) dX9_image_139) 142 rfl ?_
  rintro _ rfl
  refine j_aload_n C dX9_image_142 rfl 143 rfl ?_
  refine gf_X9_46 C rfl rfl dX9_image_143 146 rfl ?_
  refine j_aload_n C dX9_image_146 rfl 147 rfl ?_
  refine gf_X9_103 C rfl rfl dX9_image_147 150 rfl ?_
  refine j_cv C (cs_X9_366 C (ct_X9_ints (Λ := gl_mL) (R := gl_mR) (x := 12) (y := 31) (n := 32768) (h - 1) (by omega) rfl rfl (by decide) (by decide)) rfl (by omega) (by omega) (by omega) rfl (Nat.le_of_ble_eq_true rfl) dX9_image_150) 153 rfl ?_
  rintro _ rfl
  refine j_aload_n C dX9_image_153 rfl 154 rfl ?_
  refine gf_X9_49 C rfl rfl dX9_image_154 157 rfl ?_
  refine j_aload_n C dX9_image_157 rfl 158 rfl ?_
  refine gf_X9_106 C rfl rfl dX9_image_158 161 rfl ?_
  refine j_cv C (cs_X9_366 C (ct_X9_ints (Λ := gl_mL) (R := gl_mR) (x := 13) (y := 32) (n := 336) (h - 1) (by omega) rfl rfl (by decide) (by decide)) rfl (by omega) (by omega) (by omega) rfl (Nat.le_of_ble_eq_true rfl) dX9_image_161) 164 rfl ?_
  rintro _ rfl
  refine j_aload_n C dX9_image_164 rfl 165 rfl ?_
  refine gf_X9_52 C rfl rfl dX9_image_165 168 rfl ?_
  refine j_aload_n C dX9_image_168 rfl 169 rfl ?_
  refine gf_X9_109 C rfl rfl dX9_image_169 172 rfl ?_
  refine j_cv C (cs_X9_374 C (ct_X9_truths (Λ := gl_mL) (R := gl_mR) (x := 14) (y := 33) (n := 12) (h - 1) (by omega) rfl rfl (by decide) (by decide)) rfl (by omega) (by omega) (by omega) rfl (Nat.le_of_ble_eq_true rfl) dX9_image_172) 175 rfl ?_
  rintro _ rfl
  refine j_aload_n C dX9_image_175 rfl 176 rfl ?_
  refine gf_X9_55 C rfl rfl dX9_image_176 179 rfl ?_
  refine j_aload_n C dX9_image_179 rfl 180 rfl ?_
  refine gf_X9_112 C rfl rfl dX9_image_180 183 rfl ?_
  refine j_cv C (cs_X9_366 C (ct_X9_ints (Λ := gl_mL) (R := gl_mR) (x := 15) (y := 34) (n := 3360) (h - 1) (by omega) rfl rfl (by decide) (by decide)) rfl (by omega) (by omega) (by omega) rfl (Nat.le_of_ble_eq_true rfl) dX9_image_183) 186 rfl ?_
  rintro _ rfl
  refine j_aload_n C dX9_image_186 rfl 187 rfl ?_
  refine gf_X9_58 C rfl rfl dX9_image_187 190 rfl ?_
  refine j_aload_n C dX9_image_190 rfl 191 rfl ?_
  refine gf_X9_115 C rfl rfl dX9_image_191 194 rfl ?_
  refine j_cv C (cs_X9_366 C (ct_X9_ints (Λ := gl_mL) (R := gl_mR) (x := 16) (y := 35) (n := 40) (h - 1) (by omega) rfl rfl (by decide) (by decide)) rfl (by omega) (by omega) (by omega) rfl (Nat.le_of_ble_eq_true rfl) dX9_image_194) 197 rfl ?_
  rintro _ rfl
  refine j_aload_n C dX9_image_197 rfl 198 rfl ?_
  refine gf_X9_61 C rfl rfl dX9_image_198 201 rfl ?_
  refine j_aload_n C dX9_image_201 rfl 202 rfl ?_
  refine gf_X9_118 C rfl rfl dX9_image_202 205 rfl ?_
  refine j_cv C (cs_X9_374 C (ct_X9_truths (Λ := gl_mL) (R := gl_mR) (x := 17) (y := 36) (n := 8) (h - 1) (by omega) rfl rfl (by decide) (by decide)) rfl (by omega) (by omega) (by omega) rfl (Nat.le_of_ble_eq_true rfl) dX9_image_205) 208 rfl ?_
  rintro _ rfl
  refine j_aload_n C dX9_image_208 rfl 209 rfl ?_
  refine gf_X9_64 C rfl rfl dX9_image_209 212 rfl ?_
  refine j_aload_n C dX9_image_212 rfl 213 rfl ?_
  refine gf_X9_121 C rfl rfl dX9_image_213 216 rfl ?_
  refine j_cv C (cs_X9_366 C (ct_X9_ints (Λ := gl_mL) (R := gl_mR) (x := 18) (y := 37) (n := 3200) (h - 1) (by omega) rfl rfl (by decide) (by decide)) rfl (by omega) (by omega) (by omega) rfl (Nat.le_of_ble_eq_true rfl) dX9_image_216) 219 rfl ?_
  rintro _ rfl
  refine j_aload_n C dX9_image_219 rfl 220 rfl ?_
  refine gf_X9_67 C rfl rfl dX9_image_220 223 rfl ?_
  refine j_aload_n C dX9_image_223 rfl 224 rfl ?_
  refine gf_X9_124 C rfl rfl dX9_image_224 227 rfl ?_
  refine j_cv C (cs_X9_366 C (ct_X9_ints (Λ := gl_mL) (R := gl_mR) (x := 19) (y := 38) (n := 3200) (h - 1) (by omega) rfl rfl (by decide) (by decide)) rfl (by omega) (by omega) (by omega) rfl (Nat.le_of_ble_eq_true rfl) dX9_image_227) 230 rfl ?_
  rintro _ rfl
  refine j_iconst (v := b2i true) C dX9_image_230 (by decide) 231 rfl ?_
  exact j_zret C hQ ⟨rfl, _, _, _, rfl, ((((((((((((((gl_fq.rf.sc (by decide)).sc (by decide)).up (by decide) (by decide)).up (by decide) (by decide)).up (by decide) (by decide)).up (by decide) (by decide)).up (by decide) (by decide)).up (by decide) (by decide)).up (by decide) (by decide)).up (by decide) (by decide)).up (by decide) (by decide)).up (by decide) (by decide)).up (by decide) (by decide)).up (by decide) (by decide)), ((gl_fg.rf.up (by decide)).up (by decide)), ((((((gl_fg.rf.up (by decide)).up (by decide)).up (by decide)).up (by decide)).up (by decide)).up (by decide)), rfl, rfl, rfl, rfl, rfl, rfl, rfl, rfl, rfl, rfl, rfl, rfl, rfl, rfl, rfl, rfl, rfl, rfl, rfl, rfl, rfl, rfl⟩ (by omega) (by omega) dX9_image_231
set_option maxHeartbeats 4000000 in
set_option maxRecDepth 100000 in
theorem ct_X9_back {l : Launch} {δ : gl_Del} {I : Nat → Nat → Int32} {L : Nat → Nat → Int64} {B : Nat → Nat → Bool} (h : Nat) (hh : 2 ≤ h)  : gl_Ct l δ yX9_back (ws_ yX9_back cX9_back 1 ((some FieldType.boolean))) (gl_rm h 0 0) 0 0 [.ref 0] (gl_mL, I, L, B, gl_mR) (gl_Qi fun r S => r = b2i (B 0 21) ∧ ((B 0 21 = false ∧ S = (gl_mL, I, L, B, gl_mR)) ∨ (B 0 21 = true ∧ ∃ I' L' B', S = (gl_mL, I', L', B', gl_mR) ∧ gl_bkP I I' L L' B B'))) := by
  refine gl_of (by decide) (Nat.le_of_ble_eq_true rfl) rfl ?_
  intro κ C hQ hlκ hδκ hnL hini
  change gl_Cx κ RX9 _ _ _ at C
  refine j_aload_n C dX9_back_0 rfl 1 rfl ?_
  refine gf_X9_356 C rfl dX9_back_1 4 rfl ?_
  refine b_if_ne C 9 7 dX9_back_4 (by decide) rfl (fun c_4 => ?_) (fun c_4 => ?_)
  · refine j_aload_n C dX9_back_9 rfl 10 rfl ?_
    refine j_aload_n C dX9_back_10 rfl 11 rfl ?_
    refine gf_X9_360 C rfl dX9_back_11 14 rfl ?_
    refine pf_X9_267 C rfl dX9_back_14 17 rfl ?_
    refine j_aload_n C dX9_back_17 rfl 18 rfl ?_
    refine j_aload_n C dX9_back_18 rfl 19 rfl ?_
    refine gf_X9_363 C rfl dX9_back_19 22 rfl ?_
    refine pf_X9_336 C rfl dX9_back_22 25 rfl ?_
    refine j_aload_n C dX9_back_25 rfl 26 rfl ?_
    refine gf_X9_70 C rfl rfl dX9_back_26 29 rfl ?_
    refine j_aload_n C dX9_back_29 rfl 30 rfl ?_
    refine gf_X9_9 C rfl rfl dX9_back_30 33 rfl ?_
    refine j_cv C (cs_X9_366 C (ct_X9_ints (Λ := gl_mL) (R := gl_mR) (x := 20) (y := 1) (n := 24) (h - 1) (by omega) rfl rfl (by decide) (by decide)) rfl (by omega) (by omega) (by omega) rfl (Nat.le_of_ble_eq_true rfl) dX9_back_33) 36 rfl ?_
    rintro _ rfl
    refine j_aload_n C dX9_back_36 rfl 37 rfl ?_
    refine gf_X9_73 C rfl rfl dX9_back_37 40 rfl ?_
    refine j_aload_n C dX9_back_40 rfl 41 rfl ?_
    refine gf_X9_13 C rfl rfl dX9_back_41 44 rfl ?_
    refine j_cv C (cs_X9_366 C (ct_X9_ints (Λ := gl_mL) (R := gl_mR) (x := 21) (y := 2) (n := 2400) (h - 1) (by omega) rfl rfl (by decide) (by decide)) rfl (by omega) (by omega) (by omega) rfl (Nat.le_of_ble_eq_true rfl) dX9_back_44) 47 rfl ?_
    rintro _ rfl
    refine j_aload_n C dX9_back_47 rfl 48 rfl ?_
    refine gf_X9_76 C rfl rfl dX9_back_48 51 rfl ?_
    refine j_aload_n C dX9_back_51 rfl 52 rfl ?_
    refine gf_X9_16 C rfl rfl dX9_back_52 55 rfl ?_
    refine j_cv C (cs_X9_370 C (ct_X9_longs (Λ := gl_mL) (R := gl_mR) (x := 22) (y := 3) (n := 2400) (h - 1) (by omega) rfl rfl (by decide) (by decide)) rfl (by omega) (by omega) (by omega) rfl (Nat.le_of_ble_eq_true rfl) dX9_back_55) 58 rfl ?_
    rintro _ rfl
    refine j_aload_n C dX9_back_58 rfl 59 rfl ?_
    refine gf_X9_79 C rfl rfl dX9_back_59 62 rfl ?_
    refine j_aload_n C dX9_back_62 rfl 63 rfl ?_
    refine gf_X9_20 C rfl rfl dX9_back_63 66 rfl ?_
    refine j_cv C (cs_X9_374 C (ct_X9_truths (Λ := gl_mL) (R := gl_mR) (x := 23) (y := 4) (n := 2400) (h - 1) (by omega) rfl rfl (by decide) (by decide)) rfl (by omega) (by omega) (by omega) rfl (Nat.le_of_ble_eq_true rfl) dX9_back_66) 69 rfl ?_
    rintro _ rfl
    refine j_aload_n C dX9_back_69 rfl 70 rfl ?_
    refine gf_X9_82 C rfl rfl dX9_back_70 73 rfl ?_
    refine j_aload_n C dX9_back_73 rfl 74 rfl ?_
    refine gf_X9_24 C rfl rfl dX9_back_74 77 rfl ?_
    refine j_cv C (cs_X9_374 C (ct_X9_truths (Λ := gl_mL) (R := gl_mR) (x := 24) (y := 5) (n := 2400) (h - 1) (by omega) rfl rfl (by decide) (by decide)) rfl (by omega) (by omega) (by omega) rfl (Nat.le_of_ble_eq_true rfl) dX9_back_77) 80 rfl ?_
    rintro _ rfl
    refine j_aload_n C dX9_back_80 rfl 81 rfl ?_
    refine gf_X9_85 C rfl rfl dX9_back_81 84 rfl ?_
    refine j_aload_n C dX9_back_84 rfl 85 rfl ?_
    refine gf_X9_27 C rfl rfl dX9_back_85 88 rfl ?_
    refine j_cv C (cs_X9_366 C (ct_X9_ints (Λ := gl_mL) (R := gl_mR) (x := 25) (y := 6) (n := 600) (h - 1) (by omega) rfl rfl (by decide) (by decide)) rfl (by omega) (by omega) (by omega) rfl (Nat.le_of_ble_eq_true rfl) dX9_back_88) 91 rfl ?_
    rintro _ rfl
    refine j_aload_n C dX9_back_91 rfl 92 rfl ?_
    refine gf_X9_88 C rfl rfl dX9_back_92 95 rfl ?_
    refine j_aload_n C dX9_back_95 rfl 96 rfl ?_
    refine gf_X9_30 C rfl rfl dX9_back_96 99 rfl ?_
    refine j_cv C (cs_X9_366 C (ct_X9_ints (Λ := gl_mL) (R := gl_mR) (x := 26) (y := 7) (n := 600) (h - 1) (by omega) rfl rfl (by decide) (by decide)) rfl (by omega) (by omega) (by omega) rfl (Nat.le_of_ble_eq_true rfl) dX9_back_99) 102 rfl ?_
    rintro _ rfl
    refine j_aload_n C dX9_back_102 rfl 103 rfl ?_
    refine gf_X9_91 C rfl rfl dX9_back_103 106 rfl ?_
    refine j_aload_n C dX9_back_106 rfl 107 rfl ?_
    refine gf_X9_33 C rfl rfl dX9_back_107 110 rfl ?_
    refine j_cv C (cs_X9_374 C (ct_X9_truths (Λ := gl_mL) (R := gl_mR) (x := 27) (y := 8) (n := 600) (h - 1) (by omega) rfl rfl (by decide) (by decide)) rfl (by omega) (by omega) (by omega) rfl (Nat.le_of_ble_eq_true rfl) dX9_back_110) 113 rfl ?_
    rintro _ rfl
    refine j_aload_n C dX9_back_113 rfl 114 rfl ?_
    refine gf_X9_94 C rfl rfl dX9_back_114 117 rfl ?_
    refine j_aload_n C dX9_back_117 rfl 118 rfl ?_
    refine gf_X9_36 C rfl rfl dX9_back_118 121 rfl ?_
    refine j_cv C (cs_X9_366 C (ct_X9_ints (Λ := gl_mL) (R := gl_mR) (x := 28) (y := 9) (n := 128) (h - 1) (by omega) rfl rfl (by decide) (by decide)) rfl (by omega) (by omega) (by omega) rfl (Nat.le_of_ble_eq_true rfl) dX9_back_121) 124 rfl ?_
    rintro _ rfl
    refine j_aload_n C dX9_back_124 rfl 125 rfl ?_
    refine gf_X9_97 C rfl rfl dX9_back_125 128 rfl ?_
    refine j_aload_n C dX9_back_128 rfl 129 rfl ?_
    refine gf_X9_39 C rfl rfl dX9_back_129 132 rfl ?_
    refine j_cv C (cs_X9_366 C (ct_X9_ints (Λ := gl_mL) (R := gl_mR) (x := 29) (y := 10) (n := 640) (h - 1) (by omega) rfl rfl (by decide) (by decide)) rfl (by omega) (by omega) (by omega) rfl (Nat.le_of_ble_eq_true rfl) dX9_back_132) 135 rfl ?_
    rintro _ rfl
    refine j_aload_n C dX9_back_135 rfl 136 rfl ?_
    refine gf_X9_100 C rfl rfl dX9_back_136 139 rfl ?_
    refine j_aload_n C dX9_back_139 rfl 140 rfl ?_
    refine gf_X9_42 C rfl rfl dX9_back_140 143 rfl ?_
    refine j_cv C (cs_X9_370 C (ct_X9_longs (Λ := gl_mL) (R := gl_mR) (x := 30) (y := 11) (n := 640) (h - 1) (by omega) rfl rfl (by decide) (by decide)) rfl (by omega) (by omega) (by omega) rfl (Nat.le_of_ble_eq_true rfl) dX9_back_143) 146 rfl ?_
    rintro _ rfl
    refine j_aload_n C dX9_back_146 rfl 147 rfl ?_
    refine gf_X9_103 C rfl rfl dX9_back_147 150 rfl ?_
    refine j_aload_n C dX9_back_150 rfl 151 rfl ?_
    refine gf_X9_46 C rfl rfl dX9_back_151 154 rfl ?_
    refine j_cv C (cs_X9_366 C (ct_X9_ints (Λ := gl_mL) (R := gl_mR) (x := 31) (y := 12) (n := 32768) (h - 1) (by omega) rfl rfl (by decide) (by decide)) rfl (by omega) (by omega) (by omega) rfl (Nat.le_of_ble_eq_true rfl) dX9_back_154) 157 rfl ?_
    rintro _ rfl
    refine j_aload_n C dX9_back_157 rfl 158 rfl ?_
    refine gf_X9_106 C rfl rfl dX9_back_158 161 rfl ?_
    refine j_aload_n C dX9_back_161 rfl 162 rfl ?_
    refine gf_X9_49 C rfl rfl dX9_back_162 165 rfl ?_
    refine j_cv C (cs_X9_366 C (ct_X9_ints (Λ := gl_mL) (R := gl_mR) (x := 32) (y := 13) (n := 336) (h - 1) (by omega) rfl rfl (by decide) (by decide)) rfl (by omega) (by omega) (by omega) rfl (Nat.le_of_ble_eq_true rfl) dX9_back_165) 168 rfl ?_
    rintro _ rfl
    refine j_aload_n C dX9_back_168 rfl 169 rfl ?_
    refine gf_X9_109 C rfl rfl dX9_back_169 172 rfl ?_
    refine j_aload_n C dX9_back_172 rfl 173 rfl ?_
    refine gf_X9_52 C rfl rfl dX9_back_173 176 rfl ?_
    refine j_cv C (cs_X9_374 C (ct_X9_truths (Λ := gl_mL) (R := gl_mR) (x := 33) (y := 14) (n := 12) (h - 1) (by omega) rfl rfl (by decide) (by decide)) rfl (by omega) (by omega) (by omega) rfl (Nat.le_of_ble_eq_true rfl) dX9_back_176) 179 rfl ?_
    rintro _ rfl
    refine j_aload_n C dX9_back_179 rfl 180 rfl ?_
    refine gf_X9_112 C rfl rfl dX9_back_180 183 rfl ?_
    refine j_aload_n C dX9_back_183 rfl 184 rfl ?_
    refine gf_X9_55 C rfl rfl dX9_back_184 187 rfl ?_
    refine j_cv C (cs_X9_366 C (ct_X9_ints (Λ := gl_mL) (R := gl_mR) (x := 34) (y := 15) (n := 3360) (h - 1) (by omega) rfl rfl (by decide) (by decide)) rfl (by omega) (by omega) (by omega) rfl (Nat.le_of_ble_eq_true rfl) dX9_back_187) 190 rfl ?_
    rintro _ rfl
    refine j_aload_n C dX9_back_190 rfl 191 rfl ?_
    refine gf_X9_115 C rfl rfl dX9_back_191 194 rfl ?_
    refine j_aload_n C dX9_back_194 rfl 195 rfl ?_
    refine gf_X9_58 C rfl rfl dX9_back_195 198 rfl ?_
    refine j_cv C (cs_X9_366 C (ct_X9_ints (Λ := gl_mL) (R := gl_mR) (x := 35) (y := 16) (n := 40) (h - 1) (by omega) rfl rfl (by decide) (by decide)) rfl (by omega) (by omega) (by omega) rfl (Nat.le_of_ble_eq_true rfl) dX9_back_198) 201 rfl ?_
    rintro _ rfl
    refine j_aload_n C dX9_back_201 rfl 202 rfl ?_
    refine gf_X9_118 C rfl rfl dX9_back_202 205 rfl ?_
    refine j_aload_n C dX9_back_205 rfl 206 rfl ?_
    refine gf_X9_61 C rfl rfl dX9_back_206 209 rfl ?_
    refine j_cv C (cs_X9_374 C (ct_X9_truths (Λ := gl_mL) (R := gl_mR) (x := 36) (y := 17) (n := 8) (h - 1) (by omega) rfl rfl (by decide) (by decide)) rfl (by omega) (by omega) (by omega) rfl (Nat.le_of_ble_eq_true rfl) dX9_back_209) 212 rfl ?_
    rintro _ rfl
    refine j_aload_n C dX9_back_212 rfl 213 rfl ?_
    refine gf_X9_121 C rfl rfl dX9_back_213 216 rfl ?_
    refine j_aload_n C dX9_back_216 rfl 217 rfl ?_
    refine gf_X9_64 C rfl rfl dX9_back_217 220 rfl ?_
    refine j_cv C (cs_X9_366 C (ct_X9_ints (Λ := gl_mL) (R := gl_mR) (x := 37) (y := 18) (n := 3200) (h - 1) (by omega) rfl rfl (by decide) (by decide)) rfl (by omega) (by omega) (by omega) rfl (Nat.le_of_ble_eq_true rfl) dX9_back_220) 223 rfl ?_
    rintro _ rfl
    refine j_aload_n C dX9_back_223 rfl 224 rfl ?_
    refine gf_X9_124 C rfl rfl dX9_back_224 227 rfl ?_
    refine j_aload_n C dX9_back_227 rfl 228 rfl ?_
    refine gf_X9_67 C rfl rfl dX9_back_228 231 rfl ?_
    refine j_cv C (cs_X9_366 C (ct_X9_ints (Λ := gl_mL) (R := gl_mR) (x := 38) (y := 19) (n := 3200) (h - 1) (by omega) rfl rfl (by decide) (by decide)) rfl (by omega) (by omega) (by omega) rfl (Nat.le_of_ble_eq_true rfl) dX9_back_231) 234 rfl ?_
    rintro _ rfl
    refine j_iconst (v := b2i true) C dX9_back_234 (by decide) 235 rfl ?_
    exact j_zret C hQ ⟨by rw [c_4], Or.inr ⟨c_4, _, _, _, rfl, ((((((((((((((gl_fq.rf.sc (by decide)).sc (by decide)).up (by decide) (by decide)).up (by decide) (by decide)).up (by decide) (by decide)).up (by decide) (by decide)).up (by decide) (by decide)).up (by decide) (by decide)).up (by decide) (by decide)).up (by decide) (by decide)).up (by decide) (by decide)).up (by decide) (by decide)).up (by decide) (by decide)).up (by decide) (by decide)), ((gl_fg.rf.up (by decide)).up (by decide)), (((((gl_fg.rf.up (by decide)).up (by decide)).up (by decide)).up (by decide)).up (by decide)), rfl, rfl, rfl, rfl, rfl, rfl, rfl, rfl, rfl, rfl, rfl, rfl, rfl, rfl, rfl, rfl, rfl, rfl, rfl, rfl, rfl⟩⟩ (by omega) (by omega) dX9_back_235
  · refine j_iconst (v := b2i false) C dX9_back_7 (by decide) 8 rfl ?_
    exact j_zret C hQ ⟨by rw [c_4], Or.inl ⟨c_4, rfl⟩⟩ (by omega) (by omega) dX9_back_8
