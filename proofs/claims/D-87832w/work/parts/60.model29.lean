/-! MODULE Model, watchers: watch (by gen60.py) -/
set_option maxRecDepth 100000
/-- rows that hold a watcher's list -/
def gl_wm2 (K V : Nat → Int32) (w : Nat) (m : gl_Mp) : Prop := ∀ i, i < m.length → K (400 * w + i) = (gl_at m i).1 ∧ V (400 * w + i) = nI (gl_at m i).2 ∧ (gl_at m i).2 < 400
/-- the watchers: log, entries gone over, list -/
def gl_WI (I : Nat → Nat → Int32) (B : Nat → Nat → Bool) (lm : Nat) (mn : Nat → Nat) (wl wg : Nat → Nat) (ws : Nat → gl_Mp) : Prop := ∀ w, w < 8 → B 17 w = true → I 16 (5 * w) = nI (wl w) ∧ wl w < lm ∧ I 16 (5 * w + 3) = nI (wg w) ∧ wg w ≤ mn (wl w) ∧ I 16 (5 * w + 4) = nI (ws w).length ∧ (ws w).length ≤ wg w ∧ gl_wm2 (I 18) (I 19) w (ws w)
/-- entries read one by one -/
def gl_wrd (ok : Nat → Bool) (K : Nat → Int32) : Nat → Nat → gl_Mp → gl_Mp
  | 0, _, m => m
  | c + 1, i, m => gl_wrd ok K c (i + 1) (if ok i = true then gl_mi m (K i) i else m)
def gl_wok2 (g : Nat → Bool) (K : Nat → Int32) (lo hi : Int32) : Nat → Bool := fun i => !g i && (decide (¬ K i < lo) && decide (K i ≤ hi))
theorem gl_mi_wm2 {K V : Nat → Int32} {w i : Nat} {m : gl_Mp} {ky : Int32} (h : gl_wm2 K V w m) (hi : i < 400) : gl_wm2 (if gl_fk m ky < m.length then K else va_up K (400 * w + gl_fk m ky) ky) (va_up V (400 * w + gl_fk m ky) (nI i)) w (gl_mi m ky i) := by
  intro j hj
  unfold gl_mi at hj ⊢
  by_cases hq : gl_fk m ky < m.length
  · rw [if_pos hq, List.length_set] at hj
    rw [if_pos hq, if_pos hq, gl_at_set hq]
    by_cases hjk : j = gl_fk m ky
    · subst hjk
      rw [if_pos rfl, gl_up_eq]
      exact ⟨(h _ hj).1.trans (gl_fk_key hq), rfl, hi⟩
    · rw [if_neg hjk, gl_up_ne (by omega)]
      exact h j hj
  · have hle : gl_fk m ky = m.length := Nat.le_antisymm (by have := gl_ff_le (f := fun t => (gl_at m t).1) (key := ky) m.length 0; unfold gl_fk; omega) (Nat.not_lt.mp hq)
    rw [if_neg hq, List.length_append] at hj
    rw [if_neg hq, if_neg hq, gl_at_app, hle]
    by_cases hjk : j = m.length
    · subst hjk
      rw [if_pos rfl, gl_up_eq, gl_up_eq]
      exact ⟨rfl, rfl, hi⟩
    · have hj2 : j < m.length := by have : j < m.length + 1 := hj; omega
      rw [if_neg hjk, gl_up_ne (by omega), gl_up_ne (by omega)]
      exact h j hj2
/-- how many of a watcher's are not the latest of a map -/
def gl_wct (mp W : gl_Mp) : Nat → Nat
  | 0 => 0
  | k + 1 => if gl_fk mp (gl_at W k).1 < mp.length ∧ (gl_at mp (gl_fk mp (gl_at W k).1)).2 = (gl_at W k).2 then gl_wct mp W k else gl_wct mp W k + 1
