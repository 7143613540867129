/-! MODULE sums (pure): the mixing of ints, as both sides do it -/
set_option maxRecDepth 100000
def gl_rot (v : Int32) : Int32 := (v <<< (nI 7 &&& 31)) ||| (v.toUInt32 >>> ((nI 25).toUInt32 &&& Int32.toUInt32 31)).toInt32
/-- one step of a round -/
def gl_ts (a : Nat → Int32) (j : Nat) : Nat → Int32 := va_up a j (gl_rot (a j + a ((j + 1) % 8)) ^^^ a ((j + 3) % 8))
def gl_ti : Nat → (Nat → Int32) → Nat → Int32
  | 0, a => a
  | j + 1, a => gl_ts (gl_ti j a) j
def gl_to : Nat → (Nat → Int32) → Nat → Int32
  | 0, a => a
  | r + 1, a => gl_ti 8 (gl_to r a)
def gl_turn (a : Nat → Int32) : Nat → Int32 := gl_to 6 a
theorem gl_up_up {α : Type} (f : Nat → α) (c : Nat) (v w : α) : va_up (va_up f c v) c w = va_up f c w := bx_uu f c v w
theorem gl_u2_up {α : Type} (F : Nat → Nat → α) (c j : Nat) (r : Nat → α) (v : α) : gl_u2 (va_up F c r) c j v = va_up F c (va_up r j v) := by
  unfold gl_u2
  rw [gl_up_eq, gl_up_up]
theorem gl_up_self {α : Type} (F : Nat → α) (c : Nat) : va_up F c (F c) = F := by
  funext k
  by_cases h : k = c
  · subst h; exact gl_up_eq
  · exact gl_up_ne h
section RW2
variable {κ : gl_Kap} {own : String} {cc : ByteArray} {rm : Room} {ret : Option FieldType} {nc ns pc : Nat} {S : gl_Sto} {ls : List (Option Value)} {st : List Value}
theorem n_iinc (C : gl_Cx κ own cc rm ret) {i a : Nat} (d : decode cc pc = .ok (.iinc i 1, 3)) (h : ls[i]? = some (some (.int (nI a)))) (hL : i < gl_nL κ) (hk : gl_lok ls i = true) (n' : Nat) (hn : pc + 3 = n') (k : gl_J κ nc ns S n' (ls.set i (some (.int (nI (a + 1))))) st) : gl_J κ nc ns S pc ls st := j_iinc C d h (nI_1 a) hL hk n' hn k
theorem n_idec (C : gl_Cx κ own cc rm ret) {i a : Nat} (d : decode cc pc = .ok (.iinc i (-1), 3)) (h : ls[i]? = some (some (.int (nI a)))) (h0 : 0 < a) (hL : i < gl_nL κ) (hk : gl_lok ls i = true) (n' : Nat) (hn : pc + 3 = n') (k : gl_J κ nc ns S n' (ls.set i (some (.int (nI (a - 1))))) st) : gl_J κ nc ns S pc ls st := j_iinc C d h (sb_m1 h0) hL hk n' hn k
theorem gl_arrV_congr {d : ClassId} {n : Nat} {f g : Nat → Value} (h : ∀ j, j < n → f j = g j) : arrV d n f = arrV d n g := by
  unfold arrV
  congr 2
  funext j
  exact h j.val j.isLt
/-- a row of ints may be named by any row that has the same places -/
theorem j_cong {Λ : gl_Lay} {I : Nat → Nat → Int32} {L : Nat → Nat → Int64} {B : Nat → Nat → Bool} {R : Nat → Nat → Option Nat} {c n : Nat} {r r' : Nat → Int32} (hk : Λ.2 c = (0, n)) (hr : ∀ j, j < n → r j = r' j) (k : gl_J κ nc ns (Λ, va_up I c r', L, B, R) pc ls st) : gl_J κ nc ns (Λ, va_up I c r, L, B, R) pc ls st := by
  intro ad H locs la hW hS hX ho hs hl
  refine k ad H locs la ⟨fun i q hi => ?_, ⟨fun i j p q hi hj e => ?_, fun i q hi => ?_⟩, gl_wf_same hW.2.2 rfl rfl⟩ hS hX ho hs hl
  · obtain ⟨h1, rfl⟩ := gl_stl_inv hi
    have h2 := hW.1 i _ (gl_stl_get h1)
    by_cases hc : i = c
    · subst hc
      rw [gl_ce_i (S := (Λ, va_up I i r, L, B, R)) hk] at h2
      rw [gl_ce_i (S := (Λ, va_up I i r', L, B, R)) hk]
      have h2 : H[ad i]? = some (vp_cell ((gl_d κ).2 0) (n, .inl (va_up I i r i))) := h2
      show H[ad i]? = some (vp_cell ((gl_d κ).2 0) (n, .inl (va_up I i r' i)))
      rw [h2, gl_up_eq, gl_up_eq, vp_cell_i, vp_cell_i, gl_arrV_congr (fun j hj => by rw [hr j hj])]
    · have e : gl_ce (gl_d κ) ad (Λ, va_up I c r', L, B, R) i = gl_ce (gl_d κ) ad (Λ, va_up I c r, L, B, R) i := by
        show gl_cr (gl_d κ).2 ad (Λ.2 i) (va_up I c r' i) (L i) (B i) (R i) = gl_cr (gl_d κ).2 ad (Λ.2 i) (va_up I c r i) (L i) (B i) (R i)
        rw [gl_up_ne hc, gl_up_ne hc]
      rw [e]
      exact h2
  · obtain ⟨h1, rfl⟩ := gl_stl_inv hi
    obtain ⟨h2, rfl⟩ := gl_stl_inv hj
    exact hW.2.1.1 i j _ _ (gl_stl_get h1) (gl_stl_get h2) e
  · obtain ⟨h1, rfl⟩ := gl_stl_inv hi
    have h3 := hW.2.1.2 i _ (gl_stl_get (S := (Λ, va_up I c r, L, B, R)) h1)
    exact h3
end RW2
def gl_i0 : Nat → Int32 := fun j => nI (j + 1) * 1640531527
def gl_bi (j : Nat) (a : Nat → Int32) : Nat → Int32 := fun k => if k < j then gl_i0 k else a k
theorem gl_bi_s (j : Nat) (a : Nat → Int32) : va_up (gl_bi j a) j (gl_i0 j) = gl_bi (j + 1) a := by
  funext k
  unfold va_up gl_bi
  by_cases h : k = j
  · subst h; simp
  · by_cases h2 : k < j
    · simp [h, h2, show k < j + 1 by omega]
    · simp [h, h2, show ¬ k < j + 1 by omega]
/-- an int comes -/
def gl_pt (a : Nat → Int32) (n : Nat) (w : Int32) : Nat → Int32 := if (n + 1) % 8 = 0 then gl_turn (va_up a (n % 8) (a (n % 8) ^^^ w)) else va_up a (n % 8) (a (n % 8) ^^^ w)
def gl_pts (a : Nat → Int32) (n : Nat) (w : Nat → Int32) : Nat → Nat → Int32
  | 0 => a
  | k + 1 => gl_pt (gl_pts a n w k) (n + k) (w k)
def gl_e8 (a : Nat → Int32) (n : Nat) : Nat → Int32 := if n % 8 = 0 then gl_turn (va_up a 0 (a 0 ^^^ nI n)) else gl_turn (va_up (gl_turn a) 0 (gl_turn a 0 ^^^ nI n))
/-- the sum of n ints -/
def gl_fin (w : Nat → Int32) (n : Nat) : Nat → Int32 := gl_e8 (gl_pts gl_i0 0 w n) n
/-- the mixer's state -/
def gl_m1 (I : Nat → Nat → Int32) (mx ma : Nat) (r : Nat → Int32) (n : Nat) : Nat → Nat → Int32 := gl_u2 (va_up I ma r) mx 1 (nI n)
theorem gl_up_comm {α : Type} {f : Nat → α} {a b : Nat} {v w : α} (h : a ≠ b) : va_up (va_up f a v) b w = va_up (va_up f b w) a v := by
  funext k
  unfold va_up
  by_cases h1 : k = a
  · subst h1; simp [h]
  · simp [h1]
theorem gl_m1_ma {I : Nat → Nat → Int32} {mx ma n : Nat} {r : Nat → Int32} (h : ma ≠ mx) : gl_m1 I mx ma r n ma = r := by
  unfold gl_m1
  rw [gl_u2_ne h, gl_up_eq]
theorem gl_m1_n {I : Nat → Nat → Int32} {mx ma n : Nat} {r : Nat → Int32} : gl_m1 I mx ma r n mx 1 = nI n := by
  unfold gl_m1
  rw [gl_u2_eq, gl_up_eq]
theorem gl_m1_o {I : Nat → Nat → Int32} {mx ma n c : Nat} {r : Nat → Int32} (h1 : c ≠ mx) (h2 : c ≠ ma) : gl_m1 I mx ma r n c = I c := by
  unfold gl_m1
  rw [gl_u2_ne h1, gl_up_ne h2]
theorem gl_m1_r {I : Nat → Nat → Int32} {mx ma n : Nat} {r r' : Nat → Int32} (h : ma ≠ mx) : va_up (gl_m1 I mx ma r n) ma r' = gl_m1 I mx ma r' n := by
  unfold gl_m1 gl_u2
  rw [gl_up_comm (Ne.symm h), gl_up_up, gl_up_ne (Ne.symm h), gl_up_ne (Ne.symm h)]
theorem gl_m1_m1 {I : Nat → Nat → Int32} {mx ma n n' : Nat} {r r' : Nat → Int32} (h : ma ≠ mx) : gl_m1 (gl_m1 I mx ma r n) mx ma r' n' = gl_m1 I mx ma r' n' := by
  rw [show gl_m1 (gl_m1 I mx ma r n) mx ma r' n' = gl_u2 (va_up (gl_m1 I mx ma r n) ma r') mx 1 (nI n') from rfl, gl_m1_r h]
  unfold gl_m1 gl_u2
  rw [gl_up_eq, gl_up_up]
  congr 1
  exact gl_up_up _ _ _ _
theorem gl_m1_0 {I : Nat → Nat → Int32} {mx ma n : Nat} (hn : I mx 1 = nI n) : gl_m1 I mx ma (I ma) n = I := by
  unfold gl_m1 gl_u2
  rw [gl_up_self, ← hn, gl_up_self, gl_up_self]
theorem gl_cpy_s {a b : Nat → Int32} {dp k : Nat} : va_up (va_cpy a b 0 dp k) (dp + k) (a k) = va_cpy a b 0 dp (k + 1) := by
  funext i
  unfold va_up va_cpy
  by_cases h : i = dp + k
  · subst h
    simp
  · by_cases h2 : dp ≤ i ∧ i < dp + k
    · rw [if_neg h, if_pos h2, if_pos ⟨h2.1, by omega⟩]
    · rw [if_neg h, if_neg h2, if_neg (by omega)]
theorem gl_cpy_0 {α : Type} {a b : Nat → α} {sp dp : Nat} : va_cpy a b sp dp 0 = b := by
  funext i
  unfold va_cpy
  rw [if_neg (by omega)]
