/-! MODULE GlassLog: become of logs, heads, watchers; marks; reads (by gen67.py) -/
set_option maxRecDepth 100000
theorem gl_fwr_t0 {α : Type} {ok : Nat → Bool} {src dst : Nat → α} {j : Nat} (h : ok j = true) : va_up (gl_fwr ok src dst 0 j) (gl_ct ok j) (src j) = gl_fwr ok src dst 0 (j + 1) := by
  rw [gl_fwr_t h, Nat.zero_add]
/-- a log became the first n of another one -/
def gl_lbP (I I' : Nat → Nat → Int32) (L L' : Nat → Nat → Int64) (B B' : Nat → Nat → Bool) (lo ot n wn : Nat) (ok : Nat → Bool) : Prop := (∀ c, c < lo ∨ lo + 19 ≤ c → I' c = I c) ∧ I' lo = va_up (va_up (va_up (I lo) 8 (I ot 8)) 9 (nI n)) 10 (nI (gl_ct ok wn)) ∧ I' (lo + 1) = va_cpy (I (ot + 1)) (I (lo + 1)) 0 0 n ∧ I' (lo + 2) = gl_fwr ok (I (ot + 2)) (I (lo + 2)) 0 wn ∧ I' (lo + 3) = gl_fwr ok (I (ot + 3)) (I (lo + 3)) 0 wn ∧ (∀ r, r < 10 → I' (lo + 9 + r) = va_cpy (I (ot + 9 + r)) (I (lo + 9 + r)) 0 0 (n / 2 ^ r * 8)) ∧ L' = va_up L (lo + 4) (va_cpy (L (ot + 4)) (L (lo + 4)) 0 0 n) ∧ B' = va_up (va_up (va_up B (lo + 5) (va_cpy (B (ot + 5)) (B (lo + 5)) 0 0 n)) (lo + 6) (va_cpy (B (ot + 6)) (B (lo + 6)) 0 0 n)) (lo + 7) (gl_fwr ok (B (ot + 7)) (B (lo + 7)) 0 wn)
set_option maxHeartbeats 4000000 in
set_option maxRecDepth 100000 in
theorem ct_X2_become {l : Launch} {δ : gl_Del} {Λ : gl_Lay} {I : Nat → Nat → Int32} {L : Nat → Nat → Int64} {B : Nat → Nat → Bool} {R : Nat → Nat → Option Nat} {lo ot n wn : Nat} {sn : Nat → Nat} {wh : Bool} (h : Nat) (hh : 1 ≤ h) (hL : gl_LL Λ R lo) (hM : gl_LL Λ R ot) (hd : lo + 19 ≤ ot ∨ ot + 19 ≤ lo) (hn : n ≤ 400) (hwn : I ot 10 = nI wn) (hw4 : wn ≤ 100) (hsn : ∀ k, k < wn → I (ot + 3) k = nI (sn k)) (hsb : ∀ k, k < wn → sn k ≤ 400) : gl_Ct l δ yX2_become (ws_ yX2_become cX2_become 5 none) (gl_rm h 0 0) 0 0 [.ref lo, .ref ot, .int (nI n), .int (b2i wh)] (Λ, I, L, B, R) (gl_Qv fun S => ∃ I' L' B', S = (Λ, I', L', B', R) ∧ gl_lbP I I' L L' B B' lo ot n wn (fun k => wh || decide (sn k ≤ n))) := by
  refine gl_of (by decide) (Nat.le_of_ble_eq_true rfl) rfl ?_
  intro κ C hQ hlκ hδκ hnL hini
  change gl_Cx κ RX2 _ _ _ at C
  have hB7 : va_up (va_up (va_up B (lo + 5) (va_cpy (B (ot + 5)) (B (lo + 5)) 0 0 n)) (lo + 6) (va_cpy (B (ot + 6)) (B (lo + 6)) 0 0 n)) (lo + 7) (B (lo + 7)) = (va_up (va_up B (lo + 5) (va_cpy (B (ot + 5)) (B (lo + 5)) 0 0 n)) (lo + 6) (va_cpy (B (ot + 6)) (B (lo + 6)) 0 0 n)) := by
    have := gl_up_self (va_up (va_up B (lo + 5) (va_cpy (B (ot + 5)) (B (lo + 5)) 0 0 n)) (lo + 6) (va_cpy (B (ot + 6)) (B (lo + 6)) 0 0 n)) (lo + 7)
    rw [gl_up_ne (show lo + 7 ≠ lo + 6 by omega), gl_up_ne (show lo + 7 ≠ lo + 5 by omega)] at this
    exact this
  have loop2 : ∀ k j : Nat, j + k = wn → ∀ I1 : Nat → Nat → Int32, (∀ c, c < lo ∨ lo + 19 ≤ c → I1 c = I c) → I1 lo = va_up (va_up (va_up (I lo) 8 (I ot 8)) 9 (nI n)) 10 (nI (gl_ct (fun k => wh || decide (sn k ≤ n)) j)) → I1 (lo + 1) = va_cpy (I (ot + 1)) (I (lo + 1)) 0 0 n → I1 (lo + 2) = gl_fwr (fun k => wh || decide (sn k ≤ n)) (I (ot + 2)) (I (lo + 2)) 0 j → I1 (lo + 3) = gl_fwr (fun k => wh || decide (sn k ≤ n)) (I (ot + 3)) (I (lo + 3)) 0 j → (∀ r, r < 10 → I1 (lo + 9 + r) = va_cpy (I (ot + 9 + r)) (I (lo + 9 + r)) 0 0 (n / 2 ^ r * 8)) → gl_J κ 0 0 (Λ, I1, (va_up L (lo + 4) (va_cpy (L (ot + 4)) (L (lo + 4)) 0 0 n)), (va_up (va_up (va_up B (lo + 5) (va_cpy (B (ot + 5)) (B (lo + 5)) 0 0 n)) (lo + 6) (va_cpy (B (ot + 6)) (B (lo + 6)) 0 0 n)) (lo + 7) (gl_fwr (fun k => wh || decide (sn k ≤ n)) (B (ot + 7)) (B (lo + 7)) 0 j)), R) 119 [some (.ref lo), some (.ref ot), some (.int (nI n)), some (.int (b2i wh)), some (.int (nI j))] [] := by
    intro k
    induction k with
    | zero =>
      intro j hj I1 hF h0 h1 h2 h3 hs
      have hjN : j = wn := by omega
      subst hjN
      refine j_iload C dX2_become_119 rfl 121 rfl ?_
      refine j_aload_n C dX2_become_121 rfl 122 rfl ?_
      refine gf_X2_47 C hM.o dX2_become_122 125 rfl ?_
      rw [hF ot (by omega), hwn]
      refine n_icmp_ge C 210 128 dX2_become_125 (by decide) rfl (by omega) (by omega) (fun c_125 => ?_) (fun c_125 => ?_)
      · exact j_ret C hQ ⟨_, _, _, rfl, hF, h0, h1, h2, h3, hs, rfl, rfl⟩ (by omega) (by omega) dX2_become_210
      · exact absurd c_125 (by omega)
    | succ k ih =>
      intro j hj I1 hF h0 h1 h2 h3 hs
      have hct := gl_ct_le (g := (fun k => wh || decide (sn k ≤ n))) j
      have hsj := hsb j (by omega)
      refine j_iload C dX2_become_119 rfl 121 rfl ?_
      refine j_aload_n C dX2_become_121 rfl 122 rfl ?_
      refine gf_X2_47 C hM.o dX2_become_122 125 rfl ?_
      rw [hF ot (by omega), hwn]
      refine n_icmp_ge C 210 128 dX2_become_125 (by decide) rfl (by omega) (by omega) (fun c_125 => ?_) (fun c_125 => ?_)
      · exact absurd c_125 (by omega)
      · refine j_iload_n C dX2_become_128 rfl 129 rfl ?_
        refine b_if_ne C 146 132 dX2_become_129 (by decide) rfl (fun c_129 => ?_) (fun c_129 => ?_)
        · refine j_aload_n C dX2_become_146 rfl 147 rfl ?_
          refine gf_X2_15 C hL.o hL.r1 dX2_become_147 150 rfl ?_
          refine j_aload_n C dX2_become_150 rfl 151 rfl ?_
          refine gf_X2_47 C hL.o dX2_become_151 154 rfl ?_
          rw [h0, gl_up_eq]
          refine j_aload_n C dX2_become_154 rfl 155 rfl ?_
          refine gf_X2_15 C hM.o hM.r1 dX2_become_155 158 rfl ?_
          refine j_iload C dX2_become_158 rfl 160 rfl ?_
          refine j_iald C hM.k2 (by omega) (by decide) dX2_become_160 161 rfl ?_
          rw [hF (ot + 2) (by omega)]
          refine j_iast C hL.k2 (by omega) (by decide) dX2_become_161 162 rfl ?_
          refine j_aload_n C dX2_become_162 rfl 163 rfl ?_
          refine gf_X2_18 C hL.o hL.r2 dX2_become_163 166 rfl ?_
          refine j_aload_n C dX2_become_166 rfl 167 rfl ?_
          refine gf_X2_47 C hL.o dX2_become_167 170 rfl ?_
          rw [gl_u2_ne (by omega), h0, gl_up_eq]
          refine j_aload_n C dX2_become_170 rfl 171 rfl ?_
          refine gf_X2_18 C hM.o hM.r2 dX2_become_171 174 rfl ?_
          refine j_iload C dX2_become_174 rfl 176 rfl ?_
          refine j_iald C hM.k3 (by omega) (by decide) dX2_become_176 177 rfl ?_
          rw [gl_u2_ne (by omega), hF (ot + 3) (by omega)]
          refine j_iast C hL.k3 (by omega) (by decide) dX2_become_177 178 rfl ?_
          refine j_aload_n C dX2_become_178 rfl 179 rfl ?_
          refine gf_X2_32 C hL.o hL.r6 dX2_become_179 182 rfl ?_
          refine j_aload_n C dX2_become_182 rfl 183 rfl ?_
          refine gf_X2_47 C hL.o dX2_become_183 186 rfl ?_
          rw [gl_u2_ne (by omega), gl_u2_ne (by omega), h0, gl_up_eq]
          refine j_aload_n C dX2_become_186 rfl 187 rfl ?_
          refine gf_X2_32 C hM.o hM.r6 dX2_become_187 190 rfl ?_
          refine j_iload C dX2_become_190 rfl 192 rfl ?_
          refine j_zald C hM.k7 (by omega) (by decide) dX2_become_192 193 rfl ?_
          rw [gl_up_ne (f := (va_up (va_up B (lo + 5) (va_cpy (B (ot + 5)) (B (lo + 5)) 0 0 n)) (lo + 6) (va_cpy (B (ot + 6)) (B (lo + 6)) 0 0 n))) (show ot + 7 ≠ lo + 7 by omega), gl_up_ne (show ot + 7 ≠ lo + 6 by omega), gl_up_ne (show ot + 7 ≠ lo + 5 by omega)]
          refine j_zast C hL.k7 (by omega) (by decide) dX2_become_193 194 rfl ?_
          rw [gl_u2_up]
          refine j_aload_n C dX2_become_194 rfl 195 rfl ?_
          refine j_dup C dX2_become_195 rfl 196 rfl ?_
          refine gf_X2_47 C hL.o dX2_become_196 199 rfl ?_
          rw [gl_u2_ne (by omega), gl_u2_ne (by omega), h0, gl_up_eq]
          refine j_iconst (v := nI 1) C dX2_become_199 (by decide) 200 rfl ?_
          refine n_iadd C dX2_become_200 201 rfl ?_
          refine pf_X2_47 C hL.o dX2_become_201 204 rfl ?_
          refine n_iinc C dX2_become_204 rfl (by rw [hnL]; decide) rfl 207 rfl ?_
          refine j_goto (tgt := 119) C dX2_become_207 (by decide) ?_
          have hok : (fun k => wh || decide (sn k ≤ n)) j = true := by
            show (wh || decide (sn j ≤ n)) = true
            rw [c_129]; rfl
          have := ih (j + 1) (by omega) (gl_u2 (gl_u2 (gl_u2 I1 (lo + 2) (gl_ct (fun k => wh || decide (sn k ≤ n)) j) (I (ot + 2) j)) (lo + 3) (gl_ct (fun k => wh || decide (sn k ≤ n)) j) (I (ot + 3) j)) lo 10 (nI (gl_ct (fun k => wh || decide (sn k ≤ n)) j + 1))) (fun c hc => ?_) ?_ ?_ ?_ ?_ (fun r hr => ?_)
          · rw [← gl_fwr_t0 hok] at this
            exact this
          · rw [gl_u2_ne (by omega), gl_u2_ne (by omega), gl_u2_ne (by omega)]; exact hF c hc
          · rw [gl_u2_eq, gl_u2_ne (by omega), gl_u2_ne (by omega), h0, gl_up_up, gl_ct_t hok]
          · rw [gl_u2_ne (by omega), gl_u2_ne (by omega), gl_u2_ne (by omega)]; exact h1
          · rw [gl_u2_ne (by omega), gl_u2_ne (by omega), gl_u2_eq, h2, gl_fwr_t0 hok]
          · rw [gl_u2_ne (by omega), gl_u2_eq, gl_u2_ne (by omega), h3, gl_fwr_t0 hok]
          · rw [gl_u2_ne (by omega), gl_u2_ne (by omega), gl_u2_ne (by omega)]; exact hs r hr
        · refine j_aload_n C dX2_become_132 rfl 133 rfl ?_
          refine gf_X2_18 C hM.o hM.r2 dX2_become_133 136 rfl ?_
          refine j_iload C dX2_become_136 rfl 138 rfl ?_
          refine j_iald C hM.k3 (by omega) (by decide) dX2_become_138 139 rfl ?_
          rw [hF (ot + 3) (by omega), hsn j (by omega)]
          refine j_iload_n C dX2_become_139 rfl 140 rfl ?_
          refine n_icmp_le C 146 143 dX2_become_140 (by decide) rfl (by omega) (by omega) (fun c_140 => ?_) (fun c_140 => ?_)
          · refine j_aload_n C dX2_become_146 rfl 147 rfl ?_
            refine gf_X2_15 C hL.o hL.r1 dX2_become_147 150 rfl ?_
            refine j_aload_n C dX2_become_150 rfl 151 rfl ?_
            refine gf_X2_47 C hL.o dX2_become_151 154 rfl ?_
            rw [h0, gl_up_eq]
            refine j_aload_n C dX2_become_154 rfl 155 rfl ?_
            refine gf_X2_15 C hM.o hM.r1 dX2_become_155 158 rfl ?_
            refine j_iload C dX2_become_158 rfl 160 rfl ?_
            refine j_iald C hM.k2 (by omega) (by decide) dX2_become_160 161 rfl ?_
            rw [hF (ot + 2) (by omega)]
            refine j_iast C hL.k2 (by omega) (by decide) dX2_become_161 162 rfl ?_
            refine j_aload_n C dX2_become_162 rfl 163 rfl ?_
            refine gf_X2_18 C hL.o hL.r2 dX2_become_163 166 rfl ?_
            refine j_aload_n C dX2_become_166 rfl 167 rfl ?_
            refine gf_X2_47 C hL.o dX2_become_167 170 rfl ?_
            rw [gl_u2_ne (by omega), h0, gl_up_eq]
            refine j_aload_n C dX2_become_170 rfl 171 rfl ?_
            refine gf_X2_18 C hM.o hM.r2 dX2_become_171 174 rfl ?_
            refine j_iload C dX2_become_174 rfl 176 rfl ?_
            refine j_iald C hM.k3 (by omega) (by decide) dX2_become_176 177 rfl ?_
            rw [gl_u2_ne (by omega), hF (ot + 3) (by omega)]
            refine j_iast C hL.k3 (by omega) (by decide) dX2_become_177 178 rfl ?_
            refine j_aload_n C dX2_become_178 rfl 179 rfl ?_
            refine gf_X2_32 C hL.o hL.r6 dX2_become_179 182 rfl ?_
            refine j_aload_n C dX2_become_182 rfl 183 rfl ?_
            refine gf_X2_47 C hL.o dX2_become_183 186 rfl ?_
            rw [gl_u2_ne (by omega), gl_u2_ne (by omega), h0, gl_up_eq]
            refine j_aload_n C dX2_become_186 rfl 187 rfl ?_
            refine gf_X2_32 C hM.o hM.r6 dX2_become_187 190 rfl ?_
            refine j_iload C dX2_become_190 rfl 192 rfl ?_
            refine j_zald C hM.k7 (by omega) (by decide) dX2_become_192 193 rfl ?_
            rw [gl_up_ne (f := (va_up (va_up B (lo + 5) (va_cpy (B (ot + 5)) (B (lo + 5)) 0 0 n)) (lo + 6) (va_cpy (B (ot + 6)) (B (lo + 6)) 0 0 n))) (show ot + 7 ≠ lo + 7 by omega), gl_up_ne (show ot + 7 ≠ lo + 6 by omega), gl_up_ne (show ot + 7 ≠ lo + 5 by omega)]
            refine j_zast C hL.k7 (by omega) (by decide) dX2_become_193 194 rfl ?_
            rw [gl_u2_up]
            refine j_aload_n C dX2_become_194 rfl 195 rfl ?_
            refine j_dup C dX2_become_195 rfl 196 rfl ?_
            refine gf_X2_47 C hL.o dX2_become_196 199 rfl ?_
            rw [gl_u2_ne (by omega), gl_u2_ne (by omega), h0, gl_up_eq]
            refine j_iconst (v := nI 1) C dX2_become_199 (by decide) 200 rfl ?_
            refine n_iadd C dX2_become_200 201 rfl ?_
            refine pf_X2_47 C hL.o dX2_become_201 204 rfl ?_
            refine n_iinc C dX2_become_204 rfl (by rw [hnL]; decide) rfl 207 rfl ?_
            refine j_goto (tgt := 119) C dX2_become_207 (by decide) ?_
            have hok : (fun k => wh || decide (sn k ≤ n)) j = true := by
              show (wh || decide (sn j ≤ n)) = true
              rw [decide_eq_true (by omega), Bool.or_true]
            have := ih (j + 1) (by omega) (gl_u2 (gl_u2 (gl_u2 I1 (lo + 2) (gl_ct (fun k => wh || decide (sn k ≤ n)) j) (I (ot + 2) j)) (lo + 3) (gl_ct (fun k => wh || decide (sn k ≤ n)) j) (I (ot + 3) j)) lo 10 (nI (gl_ct (fun k => wh || decide (sn k ≤ n)) j + 1))) (fun c hc => ?_) ?_ ?_ ?_ ?_ (fun r hr => ?_)
            · rw [← gl_fwr_t0 hok] at this
              exact this
            · rw [gl_u2_ne (by omega), gl_u2_ne (by omega), gl_u2_ne (by omega)]; exact hF c hc
            · rw [gl_u2_eq, gl_u2_ne (by omega), gl_u2_ne (by omega), h0, gl_up_up, gl_ct_t hok]
            · rw [gl_u2_ne (by omega), gl_u2_ne (by omega), gl_u2_ne (by omega)]; exact h1
            · rw [gl_u2_ne (by omega), gl_u2_ne (by omega), gl_u2_eq, h2, gl_fwr_t0 hok]
            · rw [gl_u2_ne (by omega), gl_u2_eq, gl_u2_ne (by omega), h3, gl_fwr_t0 hok]
            · rw [gl_u2_ne (by omega), gl_u2_ne (by omega), gl_u2_ne (by omega)]; exact hs r hr
          · refine j_goto (tgt := 204) C dX2_become_143 (by decide) ?_
            refine n_iinc C dX2_become_204 rfl (by rw [hnL]; decide) rfl 207 rfl ?_
            refine j_goto (tgt := 119) C dX2_become_207 (by decide) ?_
            have hok : (fun k => wh || decide (sn k ≤ n)) j = false := by
              show (wh || decide (sn j ≤ n)) = false
              rw [c_129, decide_eq_false (by omega)]; rfl
            have := ih (j + 1) (by omega) I1 hF (by rw [gl_ct_f hok]; exact h0) h1 (by rw [gl_fwr_f hok]; exact h2) (by rw [gl_fwr_f hok]; exact h3) hs
            rw [gl_fwr_f hok] at this
            exact this
  have loop1 : ∀ k j : Nat, j + k = 10 → ∀ I1 : Nat → Nat → Int32, (∀ c, c < lo ∨ lo + 19 ≤ c → I1 c = I c) → I1 lo = (va_up (va_up (I lo) 8 (I ot 8)) 9 (nI n)) → I1 (lo + 1) = va_cpy (I (ot + 1)) (I (lo + 1)) 0 0 n → I1 (lo + 2) = I (lo + 2) → I1 (lo + 3) = I (lo + 3) → (∀ r, r < j → I1 (lo + 9 + r) = va_cpy (I (ot + 9 + r)) (I (lo + 9 + r)) 0 0 (n / 2 ^ r * 8)) → (∀ r, j ≤ r → r < 10 → I1 (lo + 9 + r) = I (lo + 9 + r)) → gl_J κ 0 0 (Λ, I1, (va_up L (lo + 4) (va_cpy (L (ot + 4)) (L (lo + 4)) 0 0 n)), (va_up (va_up B (lo + 5) (va_cpy (B (ot + 5)) (B (lo + 5)) 0 0 n)) (lo + 6) (va_cpy (B (ot + 6)) (B (lo + 6)) 0 0 n)), R) 72 [some (.ref lo), some (.ref ot), some (.int (nI n)), some (.int (b2i wh)), some (.int (nI j))] [] := by
    intro k
    induction k with
    | zero =>
      intro j hj I1 hF h0 h1 h2 h3 hs hs2
      have hjN : j = 10 := by omega
      subst hjN
      rw [← hB7]
      refine j_iload C dX2_become_72 rfl 74 rfl ?_
      refine j_bipush (v := nI 10) C dX2_become_74 (by decide) 76 rfl ?_
      refine n_icmp_ge C 111 79 dX2_become_76 (by decide) rfl (by omega) (by omega) (fun c_76 => ?_) (fun c_76 => ?_)
      · refine j_aload_n C dX2_become_111 rfl 112 rfl ?_
        refine j_iconst (v := nI 0) C dX2_become_112 (by decide) 113 rfl ?_
        refine pf_X2_47 C hL.o dX2_become_113 116 rfl ?_
        refine j_iconst (v := nI 0) C dX2_become_116 (by decide) 117 rfl ?_
        refine j_istore C dX2_become_117 (Nat.le_of_ble_eq_true rfl) (by rw [hnL]; decide) rfl 119 rfl ?_
        refine loop2 wn 0 (by omega) _ (fun c hc => by rw [gl_u2_ne (by omega)]; exact hF c hc) ?_ (by rw [gl_u2_ne (by omega)]; exact h1) (by rw [gl_u2_ne (by omega)]; exact h2) (by rw [gl_u2_ne (by omega)]; exact h3) (fun r hr => by rw [gl_u2_ne (by omega)]; exact hs r (by omega))
        rw [gl_u2_eq, h0]; rfl
      · exact absurd c_76 (by omega)
    | succ k ih =>
      intro j hj I1 hF h0 h1 h2 h3 hs hs2
      have hd1 : n / 2 ^ j ≤ 400 / 2 ^ j := Nat.div_le_div_right hn
      have hd2 : 400 / 2 ^ j ≤ 400 := Nat.div_le_self _ _
      refine j_iload C dX2_become_72 rfl 74 rfl ?_
      refine j_bipush (v := nI 10) C dX2_become_74 (by decide) 76 rfl ?_
      refine n_icmp_ge C 111 79 dX2_become_76 (by decide) rfl (by omega) (by omega) (fun c_76 => ?_) (fun c_76 => ?_)
      · exact absurd c_76 (by omega)
      · refine j_aload_n C dX2_become_79 rfl 80 rfl ?_
        refine gf_X2_36 C hM.o hM.r7 dX2_become_80 83 rfl ?_
        refine j_iload C dX2_become_83 rfl 85 rfl ?_
        refine j_aald C (by decide) hM.k8 (by omega) (by decide) dX2_become_85 86 rfl ?_
        rw [hM.rs j (by omega)]
        change gl_J _ _ _ _ _ _ (Value.ref _ :: _)
        refine j_iconst (v := nI 0) C dX2_become_86 (by decide) 87 rfl ?_
        refine j_aload_n C dX2_become_87 rfl 88 rfl ?_
        refine gf_X2_36 C hL.o hL.r7 dX2_become_88 91 rfl ?_
        refine j_iload C dX2_become_91 rfl 93 rfl ?_
        refine j_aald C (by decide) hL.k8 (by omega) (by decide) dX2_become_93 94 rfl ?_
        rw [hL.rs j (by omega)]
        change gl_J _ _ _ _ _ _ (Value.ref _ :: _)
        refine j_iconst (v := nI 0) C dX2_become_94 (by decide) 95 rfl ?_
        refine j_iload_n C dX2_become_95 rfl 96 rfl ?_
        refine j_iload C dX2_become_96 rfl 98 rfl ?_
        refine n_ishr C dX2_become_98 (by omega) (by omega) 99 rfl ?_
        refine j_bipush (v := nI 8) C dX2_become_99 (by decide) 101 rfl ?_
        refine n_imul C dX2_become_101 102 rfl ?_
        refine j_copyI C q449 (hM.ks j (by omega)) (hL.ks j (by omega)) (by omega) (by omega) (by omega) (by omega) (by omega) (Nat.le_of_ble_eq_true rfl) dX2_become_102 105 rfl ?_
        refine n_iinc C dX2_become_105 rfl (by rw [hnL]; decide) rfl 108 rfl ?_
        refine j_goto (tgt := 72) C dX2_become_108 (by decide) ?_
        refine ih (j + 1) (by omega) _ (fun c hc => ?_) ?_ ?_ ?_ ?_ (fun r hr => ?_) (fun r hr1 hr2 => ?_)
        · rw [gl_up_ne (by omega)]; exact hF c hc
        · rw [gl_up_ne (by omega)]; exact h0
        · rw [gl_up_ne (by omega)]; exact h1
        · rw [gl_up_ne (by omega)]; exact h2
        · rw [gl_up_ne (by omega)]; exact h3
        · rcases Nat.lt_or_ge r j with hlt | hge
          · rw [gl_up_ne (by omega)]; exact hs r hlt
          · obtain rfl : r = j := by omega
            rw [gl_up_eq, hF _ (by omega), hs2 r (Nat.le_refl _) (by omega)]
        · rw [gl_up_ne (by omega)]; exact hs2 r (by omega) hr2
  refine j_aload_n C dX2_become_0 rfl 1 rfl ?_
  refine j_aload_n C dX2_become_1 rfl 2 rfl ?_
  refine gf_X2_40 C hM.o dX2_become_2 5 rfl ?_
  refine pf_X2_40 C hL.o dX2_become_5 8 rfl ?_
  refine j_aload_n C dX2_become_8 rfl 9 rfl ?_
  refine j_iload_n C dX2_become_9 rfl 10 rfl ?_
  refine pf_X2_44 C hL.o dX2_become_10 13 rfl ?_
  refine j_aload_n C dX2_become_13 rfl 14 rfl ?_
  refine gf_X2_9 C hM.o hM.r0 dX2_become_14 17 rfl ?_
  refine j_iconst (v := nI 0) C dX2_become_17 (by decide) 18 rfl ?_
  refine j_aload_n C dX2_become_18 rfl 19 rfl ?_
  refine gf_X2_9 C hL.o hL.r0 dX2_become_19 22 rfl ?_
  refine j_iconst (v := nI 0) C dX2_become_22 (by decide) 23 rfl ?_
  refine j_iload_n C dX2_become_23 rfl 24 rfl ?_
  refine j_copyI C q449 hM.k1 hL.k1 (by omega) (by omega) (by decide) (by decide) (by omega) (Nat.le_of_ble_eq_true rfl) dX2_become_24 27 rfl ?_
  refine j_aload_n C dX2_become_27 rfl 28 rfl ?_
  refine gf_X2_21 C hM.o hM.r3 dX2_become_28 31 rfl ?_
  refine j_iconst (v := nI 0) C dX2_become_31 (by decide) 32 rfl ?_
  refine j_aload_n C dX2_become_32 rfl 33 rfl ?_
  refine gf_X2_21 C hL.o hL.r3 dX2_become_33 36 rfl ?_
  refine j_iconst (v := nI 0) C dX2_become_36 (by decide) 37 rfl ?_
  refine j_iload_n C dX2_become_37 rfl 38 rfl ?_
  refine j_copyJ C q449 hM.k4 hL.k4 (by omega) (by omega) (by decide) (by decide) (by omega) (Nat.le_of_ble_eq_true rfl) dX2_become_38 41 rfl ?_
  refine j_aload_n C dX2_become_41 rfl 42 rfl ?_
  refine gf_X2_25 C hM.o hM.r4 dX2_become_42 45 rfl ?_
  refine j_iconst (v := nI 0) C dX2_become_45 (by decide) 46 rfl ?_
  refine j_aload_n C dX2_become_46 rfl 47 rfl ?_
  refine gf_X2_25 C hL.o hL.r4 dX2_become_47 50 rfl ?_
  refine j_iconst (v := nI 0) C dX2_become_50 (by decide) 51 rfl ?_
  refine j_iload_n C dX2_become_51 rfl 52 rfl ?_
  refine j_copyZ C q449 hM.k5 hL.k5 (by omega) (by omega) (by decide) (by decide) (by omega) (Nat.le_of_ble_eq_true rfl) dX2_become_52 55 rfl ?_
  refine j_aload_n C dX2_become_55 rfl 56 rfl ?_
  refine gf_X2_29 C hM.o hM.r5 dX2_become_56 59 rfl ?_
  refine j_iconst (v := nI 0) C dX2_become_59 (by decide) 60 rfl ?_
  refine j_aload_n C dX2_become_60 rfl 61 rfl ?_
  refine gf_X2_29 C hL.o hL.r5 dX2_become_61 64 rfl ?_
  refine j_iconst (v := nI 0) C dX2_become_64 (by decide) 65 rfl ?_
  refine j_iload_n C dX2_become_65 rfl 66 rfl ?_
  refine j_copyZ C q449 hM.k6 hL.k6 (by omega) (by omega) (by decide) (by decide) (by omega) (Nat.le_of_ble_eq_true rfl) dX2_become_66 69 rfl ?_
  rw [gl_up_ne (f := B) (show ot + 6 ≠ lo + 5 by omega), gl_up_ne (f := B) (show lo + 6 ≠ lo + 5 by omega)]
  refine j_iconst (v := nI 0) C dX2_become_69 (by decide) 70 rfl ?_
  refine j_istore C dX2_become_70 (Nat.le_of_ble_eq_true rfl) (by rw [hnL]; decide) rfl 72 rfl ?_
  refine loop1 10 0 rfl _ (fun c hc => ?_) ?_ ?_ ?_ ?_ (fun r hr => absurd hr (by omega)) (fun r hr1 hr2 => ?_)
  · rw [gl_up_ne (by omega), gl_u2_ne (by omega), gl_u2_ne (by omega)]
  · rw [gl_up_ne (by omega), gl_u2_eq, gl_u2_eq]
  · rw [gl_up_eq, gl_u2_ne (by omega), gl_u2_ne (by omega), gl_u2_ne (by omega), gl_u2_ne (by omega)]
  · rw [gl_up_ne (by omega), gl_u2_ne (by omega), gl_u2_ne (by omega)]
  · rw [gl_up_ne (by omega), gl_u2_ne (by omega), gl_u2_ne (by omega)]
  · rw [gl_up_ne (by omega), gl_u2_ne (by omega), gl_u2_ne (by omega)]
/-- a head became another one -/
def gl_hbP (I I' : Nat → Nat → Int32) (B B' : Nat → Nat → Bool) (d e : Nat) : Prop := (∀ c, c < d ∨ d + 4 ≤ c → I' c = I c) ∧ I' d = va_up (va_up (va_up (I d) 3 (I e 3)) 4 (I e 4)) 5 (I e 5) ∧ (∀ j, j < 3 → I' (d + 1 + j) = va_cpy (I (e + 1 + j)) (I (d + 1 + j)) 0 0 8) ∧ B' = gl_u2 B d 6 (B e 6)
set_option maxHeartbeats 4000000 in
set_option maxRecDepth 100000 in
theorem ct_X4_become {l : Launch} {δ : gl_Del} {Λ : gl_Lay} {I : Nat → Nat → Int32} {L : Nat → Nat → Int64} {B : Nat → Nat → Bool} {R : Nat → Nat → Option Nat} {d e : Nat} (h : Nat) (hh : 1 ≤ h) (hL : gl_DL Λ R d) (hM : gl_DL Λ R e) (hd : d + 4 ≤ e ∨ e + 4 ≤ d) : gl_Ct l δ yX4_become (ws_ yX4_become cX4_become 2 none) (gl_rm h 0 0) 0 0 [.ref d, .ref e] (Λ, I, L, B, R) (gl_Qv fun S => ∃ I' B', S = (Λ, I', L, B', R) ∧ gl_hbP I I' B B' d e) := by
  refine gl_of (by decide) (Nat.le_of_ble_eq_true rfl) rfl ?_
  intro κ C hQ hlκ hδκ hnL hini
  change gl_Cx κ RX4 _ _ _ at C
  refine j_aload_n C dX4_become_0 rfl 1 rfl ?_
  refine j_aload_n C dX4_become_1 rfl 2 rfl ?_
  refine gf_X4_21 C hM.o dX4_become_2 5 rfl ?_
  refine pf_X4_21 C hL.o dX4_become_5 8 rfl ?_
  refine j_aload_n C dX4_become_8 rfl 9 rfl ?_
  refine j_aload_n C dX4_become_9 rfl 10 rfl ?_
  refine gf_X4_25 C hM.o dX4_become_10 13 rfl ?_
  refine pf_X4_25 C hL.o dX4_become_13 16 rfl ?_
  refine j_aload_n C dX4_become_16 rfl 17 rfl ?_
  refine j_aload_n C dX4_become_17 rfl 18 rfl ?_
  refine gf_X4_29 C hM.o dX4_become_18 21 rfl ?_
  rw [gl_u2_ne (by omega)]
  refine pf_X4_29 C hL.o dX4_become_21 24 rfl ?_
  refine j_aload_n C dX4_become_24 rfl 25 rfl ?_
  refine j_aload_n C dX4_become_25 rfl 26 rfl ?_
  refine gf_X4_32 C hM.o dX4_become_26 29 rfl ?_
  rw [gl_u2_ne (by omega), gl_u2_ne (by omega)]
  refine pf_X4_32 C hL.o dX4_become_29 32 rfl ?_
  refine j_aload_n C dX4_become_32 rfl 33 rfl ?_
  refine gf_X4_9 C hM.o hM.r0 dX4_become_33 36 rfl ?_
  refine j_iconst (v := nI 0) C dX4_become_36 (by decide) 37 rfl ?_
  refine j_aload_n C dX4_become_37 rfl 38 rfl ?_
  refine gf_X4_9 C hL.o hL.r0 dX4_become_38 41 rfl ?_
  refine j_iconst (v := nI 0) C dX4_become_41 (by decide) 42 rfl ?_
  refine j_bipush (v := nI 8) C dX4_become_42 (by decide) 44 rfl ?_
  refine j_copyI C q1043 hM.k1 hL.k1 (by omega) (by omega) (by decide) (by decide) (by omega) (Nat.le_of_ble_eq_true rfl) dX4_become_44 47 rfl ?_
  refine j_aload_n C dX4_become_47 rfl 48 rfl ?_
  refine gf_X4_15 C hM.o hM.r1 dX4_become_48 51 rfl ?_
  refine j_iconst (v := nI 0) C dX4_become_51 (by decide) 52 rfl ?_
  refine j_aload_n C dX4_become_52 rfl 53 rfl ?_
  refine gf_X4_15 C hL.o hL.r1 dX4_become_53 56 rfl ?_
  refine j_iconst (v := nI 0) C dX4_become_56 (by decide) 57 rfl ?_
  refine j_bipush (v := nI 8) C dX4_become_57 (by decide) 59 rfl ?_
  refine j_copyI C q1043 hM.k2 hL.k2 (by omega) (by omega) (by decide) (by decide) (by omega) (Nat.le_of_ble_eq_true rfl) dX4_become_59 62 rfl ?_
  refine j_aload_n C dX4_become_62 rfl 63 rfl ?_
  refine gf_X4_18 C hM.o hM.r2 dX4_become_63 66 rfl ?_
  refine j_iconst (v := nI 0) C dX4_become_66 (by decide) 67 rfl ?_
  refine j_aload_n C dX4_become_67 rfl 68 rfl ?_
  refine gf_X4_18 C hL.o hL.r2 dX4_become_68 71 rfl ?_
  refine j_iconst (v := nI 0) C dX4_become_71 (by decide) 72 rfl ?_
  refine j_bipush (v := nI 8) C dX4_become_72 (by decide) 74 rfl ?_
  refine j_copyI C q1043 hM.k3 hL.k3 (by omega) (by omega) (by decide) (by decide) (by omega) (Nat.le_of_ble_eq_true rfl) dX4_become_74 77 rfl ?_
  exact j_ret C hQ ⟨_, _, rfl, fun c hc => by rw [gl_up_ne (by omega), gl_up_ne (by omega), gl_up_ne (by omega), gl_u2_ne (by omega), gl_u2_ne (by omega), gl_u2_ne (by omega)], by rw [gl_up_ne (by omega), gl_up_ne (by omega), gl_up_ne (by omega), gl_u2_eq, gl_u2_eq, gl_u2_eq], fun j hj => by
        have o1 : ∀ c, c ≠ d → gl_u2 (gl_u2 (gl_u2 I d 3 (I e 3)) d 4 (I e 4)) d 5 (I e 5) c = I c := fun c hc => by rw [gl_u2_ne hc, gl_u2_ne hc, gl_u2_ne hc]
        rcases (show j = 0 ∨ j = 1 ∨ j = 2 by omega) with rfl | rfl | rfl
        · rw [gl_up_ne (by omega), gl_up_ne (by omega), gl_up_eq, o1 _ (by omega), o1 _ (by omega)]
        · rw [gl_up_ne (by omega), gl_up_eq, gl_up_ne (by omega), gl_up_ne (by omega), o1 _ (by omega), o1 _ (by omega)]
        · rw [gl_up_eq, gl_up_ne (by omega), gl_up_ne (by omega), gl_up_ne (by omega), gl_up_ne (by omega), o1 _ (by omega), o1 _ (by omega)], rfl⟩ (by omega) (by omega) dX4_become_77
theorem gl_mark_pts (kp n : Int32) (t u : Nat → Int32) : gl_pts (gl_pts (gl_pt (gl_pt (gl_pt (gl_pt gl_i0 0 (nI 6)) 1 kp) 2 (1000003 * kp + nI 77)) 3 n) 4 t 8) 12 u 8 = gl_pts gl_i0 0 (gl_kw kp n t u) 20 := by
  rw [show (20 : Nat) = 12 + 8 from rfl, gl_pts_app, show gl_pts gl_i0 0 (gl_kw kp n t u) 12 = gl_pts gl_i0 0 (gl_kw kp n t u) (4 + 8) from rfl, gl_pts_app]
  have e1 : gl_pts (gl_pts gl_i0 0 (gl_kw kp n t u) 4) (0 + 4) (fun k => gl_kw kp n t u (4 + k)) 8 = gl_pts (gl_pt (gl_pt (gl_pt (gl_pt gl_i0 0 (nI 6)) 1 kp) 2 (1000003 * kp + nI 77)) 3 n) 4 t 8 := by
    refine (gl_pts_congr (w' := t) fun k hk => ?_)
    show gl_kw kp n t u (4 + k) = t k
    unfold gl_kw
    rw [if_neg (by omega), if_pos (by omega), show 4 + k - 4 = k by omega]
  rw [e1]
  refine (gl_pts_congr fun k hk => ?_)
  show u k = gl_kw kp n t u (12 + k)
  unfold gl_kw
  rw [if_neg (by omega), if_neg (by omega), show 12 + k - 12 = k by omega]
set_option maxHeartbeats 4000000 in
set_option maxRecDepth 100000 in
theorem ct_X4_marks {l : Launch} {δ : gl_Del} {Λ : gl_Lay} {I : Nat → Nat → Int32} {L : Nat → Nat → Int64} {B : Nat → Nat → Bool} {R : Nat → Nat → Option Nat} {d to nt : Nat} (h : Nat) (hh : 4 ≤ h) (hL : gl_DL Λ R d) (hG : gl_GL Λ R) (hdr : d + 4 ≤ 690 ∨ 692 ≤ d) (ht : Λ.2 to = (0, nt)) (htr : to < 690 ∨ 692 ≤ to) (hat : 8 ≤ nt) (hnt : nt < 2 ^ 31) : gl_Ct l δ yX4_marks (ws_ yX4_marks cX4_marks 3 none) (gl_rm h 0 0) 0 0 [.ref d, .ref 690, .ref to] (Λ, I, L, B, R) (gl_Qv fun S => ∃ I', S = (Λ, I', L, B, R) ∧ (∀ c, c ≠ 690 → c ≠ 691 → c ≠ to → I' c = I c) ∧ I' to = va_cpy (gl_mark (I d 5) (I d 3) (I (d + 1)) (I (d + 2))) (I to) 0 0 8) := by
  refine gl_of (by decide) (Nat.le_of_ble_eq_true rfl) rfl ?_
  intro κ C hQ hlκ hδκ hnL hini
  change gl_Cx κ RX4 _ _ _ at C
  refine j_aload_n C dX4_marks_0 rfl 1 rfl ?_
  refine j_cv C (cs_X4_41 C (ct_X6_begin (h - 1) (by omega) hG.mx) hG.mx.1 rfl (by omega) (by omega) (by omega) rfl (Nat.le_of_ble_eq_true rfl) dX4_marks_1) 4 rfl ?_
  rintro _ rfl
  refine j_aload_n C dX4_marks_4 rfl 5 rfl ?_
  refine j_bipush (v := nI 6) C dX4_marks_5 (by decide) 7 rfl ?_
  refine j_cv C (cs_X4_46 C (ct_X6_put (n := 0) (h - 1) (by omega) hG.mx gl_m1_n (by omega)) hG.mx.1 rfl (by omega) (by omega) (by omega) rfl (Nat.le_of_ble_eq_true rfl) dX4_marks_7) 10 rfl ?_
  rintro _ rfl
  rw [gl_m1_ma hG.mx.2.2.2, gl_m1_m1 hG.mx.2.2.2]
  refine j_aload_n C dX4_marks_10 rfl 11 rfl ?_
  refine j_aload_n C dX4_marks_11 rfl 12 rfl ?_
  refine gf_X4_32 C hL.o dX4_marks_12 15 rfl ?_
  rw [gl_m1_o (by omega) (by omega)]
  refine j_cv C (cs_X4_46 C (ct_X6_put (n := 1) (h - 1) (by omega) hG.mx gl_m1_n (by omega)) hG.mx.1 rfl (by omega) (by omega) (by omega) rfl (Nat.le_of_ble_eq_true rfl) dX4_marks_15) 18 rfl ?_
  rintro _ rfl
  rw [gl_m1_ma hG.mx.2.2.2, gl_m1_m1 hG.mx.2.2.2]
  refine j_aload_n C dX4_marks_18 rfl 19 rfl ?_
  refine j_ldc C q574 dX4_marks_19 21 rfl ?_
  refine j_aload_n C dX4_marks_21 rfl 22 rfl ?_
  refine gf_X4_32 C hL.o dX4_marks_22 25 rfl ?_
  rw [gl_m1_o (by omega) (by omega)]
  refine j_imul C dX4_marks_25 26 rfl ?_
  refine j_bipush (v := nI 77) C dX4_marks_26 (by decide) 28 rfl ?_
  refine j_iadd C dX4_marks_28 29 rfl ?_
  refine j_cv C (cs_X4_46 C (ct_X6_put (n := 2) (h - 1) (by omega) hG.mx gl_m1_n (by omega)) hG.mx.1 rfl (by omega) (by omega) (by omega) rfl (Nat.le_of_ble_eq_true rfl) dX4_marks_29) 32 rfl ?_
  rintro _ rfl
  rw [gl_m1_ma hG.mx.2.2.2, gl_m1_m1 hG.mx.2.2.2]
  refine j_aload_n C dX4_marks_32 rfl 33 rfl ?_
  refine j_aload_n C dX4_marks_33 rfl 34 rfl ?_
  refine gf_X4_25 C hL.o dX4_marks_34 37 rfl ?_
  rw [gl_m1_o (by omega) (by omega)]
  refine j_cv C (cs_X4_46 C (ct_X6_put (n := 3) (h - 1) (by omega) hG.mx gl_m1_n (by omega)) hG.mx.1 rfl (by omega) (by omega) (by omega) rfl (Nat.le_of_ble_eq_true rfl) dX4_marks_37) 40 rfl ?_
  rintro _ rfl
  rw [gl_m1_ma hG.mx.2.2.2, gl_m1_m1 hG.mx.2.2.2]
  refine j_aload_n C dX4_marks_40 rfl 41 rfl ?_
  refine j_aload_n C dX4_marks_41 rfl 42 rfl ?_
  refine gf_X4_9 C hL.o hL.r0 dX4_marks_42 45 rfl ?_
  refine j_iconst (v := nI 0) C dX4_marks_45 (by decide) 46 rfl ?_
  refine j_cv C (cs_X4_51 C (ct_X6_put2 (n := 4) (fr := 0) (h - 1) (by omega) hG.mx gl_m1_n (by omega) hL.k1 (by omega) (by decide) (by decide)) hG.mx.1 rfl (by omega) (by omega) (by omega) rfl (Nat.le_of_ble_eq_true rfl) dX4_marks_46) 49 rfl ?_
  rintro _ rfl
  rw [gl_m1_ma hG.mx.2.2.2, gl_m1_m1 hG.mx.2.2.2, show (fun t => gl_m1 I 690 691 _ 4 (d + 1) (0 + t)) = I (d + 1) by rw [gl_m1_o (by omega) (by omega)]; funext t; rw [Nat.zero_add]]
  refine j_aload_n C dX4_marks_49 rfl 50 rfl ?_
  refine j_aload_n C dX4_marks_50 rfl 51 rfl ?_
  refine gf_X4_15 C hL.o hL.r1 dX4_marks_51 54 rfl ?_
  refine j_iconst (v := nI 0) C dX4_marks_54 (by decide) 55 rfl ?_
  refine j_cv C (cs_X4_51 C (ct_X6_put2 (n := 12) (fr := 0) (h - 1) (by omega) hG.mx gl_m1_n (by omega) hL.k2 (by omega) (by decide) (by decide)) hG.mx.1 rfl (by omega) (by omega) (by omega) rfl (Nat.le_of_ble_eq_true rfl) dX4_marks_55) 58 rfl ?_
  rintro _ rfl
  rw [gl_m1_ma hG.mx.2.2.2, gl_m1_m1 hG.mx.2.2.2, show (fun t => gl_m1 I 690 691 _ 12 (d + 2) (0 + t)) = I (d + 2) by rw [gl_m1_o (by omega) (by omega)]; funext t; rw [Nat.zero_add]]
  refine j_aload_n C dX4_marks_58 rfl 59 rfl ?_
  refine j_aload_n C dX4_marks_59 rfl 60 rfl ?_
  refine j_iconst (v := nI 0) C dX4_marks_60 (by decide) 61 rfl ?_
  refine j_cv C (cs_X4_54 C (ct_X6_end (n := 20) (at_ := 0) (h - 1) (by omega) hG.mx gl_m1_n (by omega) ht (by omega) (by omega) hnt) hG.mx.1 rfl (by omega) (by omega) (by omega) rfl (Nat.le_of_ble_eq_true rfl) dX4_marks_61) 64 rfl ?_
  rintro _ rfl
  rw [gl_m1_ma hG.mx.2.2.2, gl_m1_m1 hG.mx.2.2.2, gl_m1_o (c := to) (by omega) (by omega), gl_mark_pts]
  exact j_ret C hQ ⟨_, rfl, fun c h1 h2 h3 => by rw [gl_up_ne h3, gl_m1_o h1 h2], by rw [gl_up_eq]; rfl⟩ (by omega) (by omega) dX4_marks_64
/-- a watcher became another one -/
def gl_wbP (I I' : Nat → Nat → Int32) (B B' : Nat → Nat → Bool) (d e n : Nat) : Prop := (∀ c, c < d ∨ d + 3 ≤ c → I' c = I c) ∧ (∀ k, 2 ≤ k → k < 7 → I' d k = I e k) ∧ (∀ j, j < 2 → I' (d + 1 + j) = va_cpy (I (e + 1 + j)) (I (d + 1 + j)) 0 0 n) ∧ B' = gl_u2 B d 7 (B e 7)
set_option maxHeartbeats 4000000 in
set_option maxRecDepth 100000 in
theorem ct_X5_become {l : Launch} {δ : gl_Del} {Λ : gl_Lay} {I : Nat → Nat → Int32} {L : Nat → Nat → Int64} {B : Nat → Nat → Bool} {R : Nat → Nat → Option Nat} {d e n : Nat} (h : Nat) (hh : 1 ≤ h) (hL : gl_TL Λ R d) (hM : gl_TL Λ R e) (hd : d + 3 ≤ e ∨ e + 3 ≤ d) (hn : I e 6 = nI n) (hnb : n ≤ 400) : gl_Ct l δ yX5_become (ws_ yX5_become cX5_become 2 none) (gl_rm h 0 0) 0 0 [.ref d, .ref e] (Λ, I, L, B, R) (gl_Qv fun S => ∃ I' B', S = (Λ, I', L, B', R) ∧ gl_wbP I I' B B' d e n) := by
  refine gl_of (by decide) (Nat.le_of_ble_eq_true rfl) rfl ?_
  intro κ C hQ hlκ hδκ hnL hini
  change gl_Cx κ RX5 _ _ _ at C
  have o1 : ∀ c, c ≠ d → gl_u2 (gl_u2 (gl_u2 (gl_u2 (gl_u2 I d 2 (I e 2)) d 3 (I e 3)) d 4 (I e 4)) d 5 (I e 5)) d 6 (nI n) c = I c := fun c hc => by rw [gl_u2_ne hc, gl_u2_ne hc, gl_u2_ne hc, gl_u2_ne hc, gl_u2_ne hc]
  refine j_aload_n C dX5_become_0 rfl 1 rfl ?_
  refine j_aload_n C dX5_become_1 rfl 2 rfl ?_
  refine gf_X5_28 C hM.o dX5_become_2 5 rfl ?_
  refine pf_X5_28 C hL.o dX5_become_5 8 rfl ?_
  refine j_aload_n C dX5_become_8 rfl 9 rfl ?_
  refine j_aload_n C dX5_become_9 rfl 10 rfl ?_
  refine gf_X5_32 C hM.o dX5_become_10 13 rfl ?_
  refine pf_X5_32 C hL.o dX5_become_13 16 rfl ?_
  refine j_aload_n C dX5_become_16 rfl 17 rfl ?_
  refine j_aload_n C dX5_become_17 rfl 18 rfl ?_
  refine gf_X5_35 C hM.o dX5_become_18 21 rfl ?_
  rw [gl_u2_ne (by omega)]
  refine pf_X5_35 C hL.o dX5_become_21 24 rfl ?_
  refine j_aload_n C dX5_become_24 rfl 25 rfl ?_
  refine j_aload_n C dX5_become_25 rfl 26 rfl ?_
  refine gf_X5_38 C hM.o dX5_become_26 29 rfl ?_
  rw [gl_u2_ne (by omega), gl_u2_ne (by omega)]
  refine pf_X5_38 C hL.o dX5_become_29 32 rfl ?_
  refine j_aload_n C dX5_become_32 rfl 33 rfl ?_
  refine j_aload_n C dX5_become_33 rfl 34 rfl ?_
  refine gf_X5_41 C hM.o dX5_become_34 37 rfl ?_
  rw [gl_u2_ne (by omega), gl_u2_ne (by omega), gl_u2_ne (by omega)]
  refine pf_X5_41 C hL.o dX5_become_37 40 rfl ?_
  refine j_aload_n C dX5_become_40 rfl 41 rfl ?_
  refine j_aload_n C dX5_become_41 rfl 42 rfl ?_
  refine gf_X5_18 C hM.o dX5_become_42 45 rfl ?_
  rw [gl_u2_ne (by omega), gl_u2_ne (by omega), gl_u2_ne (by omega), gl_u2_ne (by omega), hn]
  refine pf_X5_18 C hL.o dX5_become_45 48 rfl ?_
  refine j_aload_n C dX5_become_48 rfl 49 rfl ?_
  refine gf_X5_9 C hM.o hM.r0 dX5_become_49 52 rfl ?_
  refine j_iconst (v := nI 0) C dX5_become_52 (by decide) 53 rfl ?_
  refine j_aload_n C dX5_become_53 rfl 54 rfl ?_
  refine gf_X5_9 C hL.o hL.r0 dX5_become_54 57 rfl ?_
  refine j_iconst (v := nI 0) C dX5_become_57 (by decide) 58 rfl ?_
  refine j_aload_n C dX5_become_58 rfl 59 rfl ?_
  refine gf_X5_18 C hL.o dX5_become_59 62 rfl ?_
  rw [gl_u2_eq, gl_up_eq]
  refine j_copyI C q1180 hM.k1 hL.k1 (by omega) (by omega) (by decide) (by decide) (by omega) (Nat.le_of_ble_eq_true rfl) dX5_become_62 65 rfl ?_
  refine j_aload_n C dX5_become_65 rfl 66 rfl ?_
  refine gf_X5_15 C hM.o hM.r1 dX5_become_66 69 rfl ?_
  refine j_iconst (v := nI 0) C dX5_become_69 (by decide) 70 rfl ?_
  refine j_aload_n C dX5_become_70 rfl 71 rfl ?_
  refine gf_X5_15 C hL.o hL.r1 dX5_become_71 74 rfl ?_
  refine j_iconst (v := nI 0) C dX5_become_74 (by decide) 75 rfl ?_
  refine j_aload_n C dX5_become_75 rfl 76 rfl ?_
  refine gf_X5_18 C hL.o dX5_become_76 79 rfl ?_
  rw [gl_up_ne (by omega), gl_u2_eq, gl_up_eq]
  refine j_copyI C q1180 hM.k2 hL.k2 (by omega) (by omega) (by decide) (by decide) (by omega) (Nat.le_of_ble_eq_true rfl) dX5_become_79 82 rfl ?_
  exact j_ret C hQ ⟨_, _, rfl, fun c hc => by rw [gl_up_ne (by omega), gl_up_ne (by omega), o1 c (by omega)], fun k h1 h2 => by
        rw [gl_up_ne (by omega), gl_up_ne (by omega), gl_u2_eq, gl_u2_eq, gl_u2_eq, gl_u2_eq, gl_u2_eq]
        rcases (show k = 2 ∨ k = 3 ∨ k = 4 ∨ k = 5 ∨ k = 6 by omega) with rfl | rfl | rfl | rfl | rfl
        · rfl
        · rfl
        · rfl
        · rfl
        · exact hn.symm, fun j hj => by
        rcases (show j = 0 ∨ j = 1 by omega) with rfl | rfl
        · rw [gl_up_ne (by omega), gl_up_eq, o1 _ (by omega), o1 _ (by omega)]
        · rw [gl_up_eq, gl_up_ne (by omega), gl_up_ne (by omega), o1 _ (by omega), o1 _ (by omega)], rfl⟩ (by omega) (by omega) dX5_become_82
