/-! MODULE GlassLog, base: layouts of its cells, frames by ranges of labels, shifts, the static helpers (by gen63.py) -/
set_option maxRecDepth 100000
/-- rows of ints outside a range of labels are as they were -/
def gl_fr (a b : Nat) (I I' : Nat → Nat → Int32) : Prop := ∀ c, c < a ∨ b ≤ c → I' c = I c
theorem gl_fr.rf {a b : Nat} {I : Nat → Nat → Int32} : gl_fr a b I I := fun _ _ => rfl
theorem gl_fr.tr {a b : Nat} {I J K : Nat → Nat → Int32} (h1 : gl_fr a b I J) (h2 : gl_fr a b J K) : gl_fr a b I K := fun c hc => (h2 c hc).trans (h1 c hc)
theorem gl_fr.mo {a b a' b' : Nat} {I J : Nat → Nat → Int32} (h : gl_fr a b I J) (ha : a' ≤ a) (hb : b ≤ b') : gl_fr a' b' I J := fun c hc => h c (by omega)
theorem gl_fr.up {a b c : Nat} {I J : Nat → Nat → Int32} {r : Nat → Int32} (h : gl_fr a b I J) (h1 : a ≤ c) (h2 : c < b) : gl_fr a b I (va_up J c r) := fun d hd => by rw [gl_up_ne (show d ≠ c by omega)]; exact h d hd
theorem gl_fr.u2 {a b c j : Nat} {I J : Nat → Nat → Int32} {v : Int32} (h : gl_fr a b I J) (h1 : a ≤ c) (h2 : c < b) : gl_fr a b I (gl_u2 J c j v) := h.up h1 h2
theorem gl_fr.m1 {a b n : Nat} {I J : Nat → Nat → Int32} {r : Nat → Int32} (h : gl_fr a b I J) (h1 : a ≤ 690) (h2 : 692 ≤ b) : gl_fr a b I (gl_m1 J 690 691 r n) := (h.up (c := 691) (by omega) (by omega)).u2 (c := 690) (by omega) (by omega)
theorem gl_shl {n r : Nat} (hr : r < 32) (h : n * 2 ^ r < 2 ^ 32) : nI n <<< (nI r &&& 31) = nI (n * 2 ^ r) := pk_shlN _ r (s_l r hr) h
theorem gl_shr {n r : Nat} (hr : r < 32) (h : n < 2 ^ 31) : nI n >>> (nI r &&& 31) = nI (n / 2 ^ r) := pk_shrN h _ r (s_l r hr)
theorem gl_and1 {n : Nat} (h : n < 2 ^ 32) : nI n &&& nI 1 = nI (n % 2) := pk_andN h 1 (by decide)
section RWS
variable {κ : gl_Kap} {own : String} {cc : ByteArray} {rm : Room} {ret : Option FieldType} {nc ns pc : Nat} {S : gl_Sto} {ls : List (Option Value)} {st : List Value}
theorem n_ishl (C : gl_Cx κ own cc rm ret) {a r : Nat} (d : decode cc pc = .ok (.ishl, 1)) (hr : r < 32) (hb : a * 2 ^ r < 2 ^ 32) (n' : Nat) (hn : pc + 1 = n') (k : gl_J κ nc ns S n' ls (.int (nI (a * 2 ^ r)) :: st)) : gl_J κ nc ns S pc ls (.int (nI r) :: .int (nI a) :: st) := by
  refine j_ishl C d n' hn ?_
  rw [gl_shl hr hb]
  exact k
theorem n_ishr (C : gl_Cx κ own cc rm ret) {a r : Nat} (d : decode cc pc = .ok (.ishr, 1)) (hr : r < 32) (hb : a < 2 ^ 31) (n' : Nat) (hn : pc + 1 = n') (k : gl_J κ nc ns S n' ls (.int (nI (a / 2 ^ r)) :: st)) : gl_J κ nc ns S pc ls (.int (nI r) :: .int (nI a) :: st) := by
  refine j_ishr C d n' hn ?_
  rw [gl_shr hr hb]
  exact k
theorem n_iand (C : gl_Cx κ own cc rm ret) {a : Nat} (d : decode cc pc = .ok (.iand, 1)) (hb : a < 2 ^ 32) (n' : Nat) (hn : pc + 1 = n') (k : gl_J κ nc ns S n' ls (.int (nI (a % 2)) :: st)) : gl_J κ nc ns S pc ls (.int (nI 1) :: .int (nI a) :: st) := by
  refine j_iand C d n' hn ?_
  rw [gl_and1 hb]
  exact k
end RWS
/-- a log at label l -/
def gl_LL (Λ : gl_Lay) (R : Nat → Nat → Option Nat) (l : Nat) : Prop := Λ.2 l = (10, 0) ∧ Λ.2 (l + 1) = (0, 400) ∧ Λ.2 (l + 2) = (0, 100) ∧ Λ.2 (l + 3) = (0, 100) ∧ Λ.2 (l + 4) = (2, 400) ∧ Λ.2 (l + 5) = (1, 400) ∧ Λ.2 (l + 6) = (1, 400) ∧ Λ.2 (l + 7) = (1, 100) ∧ Λ.2 (l + 8) = (7, 10) ∧ R l 0 = some (l + 1) ∧ R l 1 = some (l + 2) ∧ R l 2 = some (l + 3) ∧ R l 3 = some (l + 4) ∧ R l 4 = some (l + 5) ∧ R l 5 = some (l + 6) ∧ R l 6 = some (l + 7) ∧ R l 7 = some (l + 8) ∧ (∀ r, r < 10 → Λ.2 (l + 9 + r) = (0, (400 / 2 ^ r + 1) * 8)) ∧ (∀ r, r < 10 → R (l + 8) r = some (l + 9 + r))
theorem gl_LL.o {Λ : gl_Lay} {R : Nat → Nat → Option Nat} {l : Nat} (H_ : gl_LL Λ R l) : Λ.2 l = (10, 0) := H_.1
theorem gl_LL.k1 {Λ : gl_Lay} {R : Nat → Nat → Option Nat} {l : Nat} (H_ : gl_LL Λ R l) : Λ.2 (l + 1) = (0, 400) := H_.2.1
theorem gl_LL.k2 {Λ : gl_Lay} {R : Nat → Nat → Option Nat} {l : Nat} (H_ : gl_LL Λ R l) : Λ.2 (l + 2) = (0, 100) := H_.2.2.1
theorem gl_LL.k3 {Λ : gl_Lay} {R : Nat → Nat → Option Nat} {l : Nat} (H_ : gl_LL Λ R l) : Λ.2 (l + 3) = (0, 100) := H_.2.2.2.1
theorem gl_LL.k4 {Λ : gl_Lay} {R : Nat → Nat → Option Nat} {l : Nat} (H_ : gl_LL Λ R l) : Λ.2 (l + 4) = (2, 400) := H_.2.2.2.2.1
theorem gl_LL.k5 {Λ : gl_Lay} {R : Nat → Nat → Option Nat} {l : Nat} (H_ : gl_LL Λ R l) : Λ.2 (l + 5) = (1, 400) := H_.2.2.2.2.2.1
theorem gl_LL.k6 {Λ : gl_Lay} {R : Nat → Nat → Option Nat} {l : Nat} (H_ : gl_LL Λ R l) : Λ.2 (l + 6) = (1, 400) := H_.2.2.2.2.2.2.1
theorem gl_LL.k7 {Λ : gl_Lay} {R : Nat → Nat → Option Nat} {l : Nat} (H_ : gl_LL Λ R l) : Λ.2 (l + 7) = (1, 100) := H_.2.2.2.2.2.2.2.1
theorem gl_LL.k8 {Λ : gl_Lay} {R : Nat → Nat → Option Nat} {l : Nat} (H_ : gl_LL Λ R l) : Λ.2 (l + 8) = (7, 10) := H_.2.2.2.2.2.2.2.2.1
theorem gl_LL.r0 {Λ : gl_Lay} {R : Nat → Nat → Option Nat} {l : Nat} (H_ : gl_LL Λ R l) : R l 0 = some (l + 1) := H_.2.2.2.2.2.2.2.2.2.1
theorem gl_LL.r1 {Λ : gl_Lay} {R : Nat → Nat → Option Nat} {l : Nat} (H_ : gl_LL Λ R l) : R l 1 = some (l + 2) := H_.2.2.2.2.2.2.2.2.2.2.1
theorem gl_LL.r2 {Λ : gl_Lay} {R : Nat → Nat → Option Nat} {l : Nat} (H_ : gl_LL Λ R l) : R l 2 = some (l + 3) := H_.2.2.2.2.2.2.2.2.2.2.2.1
theorem gl_LL.r3 {Λ : gl_Lay} {R : Nat → Nat → Option Nat} {l : Nat} (H_ : gl_LL Λ R l) : R l 3 = some (l + 4) := H_.2.2.2.2.2.2.2.2.2.2.2.2.1
theorem gl_LL.r4 {Λ : gl_Lay} {R : Nat → Nat → Option Nat} {l : Nat} (H_ : gl_LL Λ R l) : R l 4 = some (l + 5) := H_.2.2.2.2.2.2.2.2.2.2.2.2.2.1
theorem gl_LL.r5 {Λ : gl_Lay} {R : Nat → Nat → Option Nat} {l : Nat} (H_ : gl_LL Λ R l) : R l 5 = some (l + 6) := H_.2.2.2.2.2.2.2.2.2.2.2.2.2.2.1
theorem gl_LL.r6 {Λ : gl_Lay} {R : Nat → Nat → Option Nat} {l : Nat} (H_ : gl_LL Λ R l) : R l 6 = some (l + 7) := H_.2.2.2.2.2.2.2.2.2.2.2.2.2.2.2.1
theorem gl_LL.r7 {Λ : gl_Lay} {R : Nat → Nat → Option Nat} {l : Nat} (H_ : gl_LL Λ R l) : R l 7 = some (l + 8) := H_.2.2.2.2.2.2.2.2.2.2.2.2.2.2.2.2.1
theorem gl_LL.ks {Λ : gl_Lay} {R : Nat → Nat → Option Nat} {l : Nat} (H_ : gl_LL Λ R l) : ∀ r, r < 10 → Λ.2 (l + 9 + r) = (0, (400 / 2 ^ r + 1) * 8) := H_.2.2.2.2.2.2.2.2.2.2.2.2.2.2.2.2.2.1
theorem gl_LL.rs {Λ : gl_Lay} {R : Nat → Nat → Option Nat} {l : Nat} (H_ : gl_LL Λ R l) : ∀ r, r < 10 → R (l + 8) r = some (l + 9 + r) := H_.2.2.2.2.2.2.2.2.2.2.2.2.2.2.2.2.2.2
/-- a head at label d -/
def gl_DL (Λ : gl_Lay) (R : Nat → Nat → Option Nat) (d : Nat) : Prop := Λ.2 d = (12, 0) ∧ Λ.2 (d + 1) = (0, 8) ∧ Λ.2 (d + 2) = (0, 8) ∧ Λ.2 (d + 3) = (0, 8) ∧ R d 0 = some (d + 1) ∧ R d 1 = some (d + 2) ∧ R d 2 = some (d + 3)
theorem gl_DL.o {Λ : gl_Lay} {R : Nat → Nat → Option Nat} {d : Nat} (H_ : gl_DL Λ R d) : Λ.2 d = (12, 0) := H_.1
theorem gl_DL.k1 {Λ : gl_Lay} {R : Nat → Nat → Option Nat} {d : Nat} (H_ : gl_DL Λ R d) : Λ.2 (d + 1) = (0, 8) := H_.2.1
theorem gl_DL.k2 {Λ : gl_Lay} {R : Nat → Nat → Option Nat} {d : Nat} (H_ : gl_DL Λ R d) : Λ.2 (d + 2) = (0, 8) := H_.2.2.1
theorem gl_DL.k3 {Λ : gl_Lay} {R : Nat → Nat → Option Nat} {d : Nat} (H_ : gl_DL Λ R d) : Λ.2 (d + 3) = (0, 8) := H_.2.2.2.1
theorem gl_DL.r0 {Λ : gl_Lay} {R : Nat → Nat → Option Nat} {d : Nat} (H_ : gl_DL Λ R d) : R d 0 = some (d + 1) := H_.2.2.2.2.1
theorem gl_DL.r1 {Λ : gl_Lay} {R : Nat → Nat → Option Nat} {d : Nat} (H_ : gl_DL Λ R d) : R d 1 = some (d + 2) := H_.2.2.2.2.2.1
theorem gl_DL.r2 {Λ : gl_Lay} {R : Nat → Nat → Option Nat} {d : Nat} (H_ : gl_DL Λ R d) : R d 2 = some (d + 3) := H_.2.2.2.2.2.2
/-- a watcher at label w -/
def gl_TL (Λ : gl_Lay) (R : Nat → Nat → Option Nat) (w : Nat) : Prop := Λ.2 w = (13, 0) ∧ Λ.2 (w + 1) = (0, 400) ∧ Λ.2 (w + 2) = (0, 400) ∧ R w 0 = some (w + 1) ∧ R w 1 = some (w + 2)
theorem gl_TL.o {Λ : gl_Lay} {R : Nat → Nat → Option Nat} {w : Nat} (H_ : gl_TL Λ R w) : Λ.2 w = (13, 0) := H_.1
theorem gl_TL.k1 {Λ : gl_Lay} {R : Nat → Nat → Option Nat} {w : Nat} (H_ : gl_TL Λ R w) : Λ.2 (w + 1) = (0, 400) := H_.2.1
theorem gl_TL.k2 {Λ : gl_Lay} {R : Nat → Nat → Option Nat} {w : Nat} (H_ : gl_TL Λ R w) : Λ.2 (w + 2) = (0, 400) := H_.2.2.1
theorem gl_TL.r0 {Λ : gl_Lay} {R : Nat → Nat → Option Nat} {w : Nat} (H_ : gl_TL Λ R w) : R w 0 = some (w + 1) := H_.2.2.2.1
theorem gl_TL.r1 {Λ : gl_Lay} {R : Nat → Nat → Option Nat} {w : Nat} (H_ : gl_TL Λ R w) : R w 1 = some (w + 2) := H_.2.2.2.2
/-- a house at label h: 689 cells -/
def gl_HL (Λ : gl_Lay) (R : Nat → Nat → Option Nat) (h : Nat) : Prop := Λ.2 h = (9, 0) ∧ Λ.2 (h + 1) = (3, 6) ∧ Λ.2 (h + 2) = (4, 16) ∧ Λ.2 (h + 3) = (5, 12) ∧ Λ.2 (h + 4) = (5, 120) ∧ Λ.2 (h + 5) = (6, 8) ∧ Λ.2 (h + 6) = (0, 12) ∧ R h 0 = some (h + 1) ∧ R h 1 = some (h + 2) ∧ R h 2 = some (h + 3) ∧ R h 3 = some (h + 4) ∧ R h 4 = some (h + 5) ∧ R h 5 = some (h + 6) ∧ (∀ k, k < 6 → R (h + 1) k = some (h + 7 + 19 * k)) ∧ (∀ k, k < 6 → gl_LL Λ R (h + 7 + 19 * k)) ∧ (∀ k, k < 16 → R (h + 2) k = some (h + 121 + k)) ∧ (∀ k, k < 16 → Λ.2 (h + 121 + k) = (11, 0)) ∧ (∀ k, k < 12 → R (h + 3) k = some (h + 137 + 4 * k)) ∧ (∀ k, k < 12 → gl_DL Λ R (h + 137 + 4 * k)) ∧ (∀ k, k < 120 → R (h + 4) k = some (h + 185 + 4 * k)) ∧ (∀ k, k < 120 → gl_DL Λ R (h + 185 + 4 * k)) ∧ (∀ k, k < 8 → R (h + 5) k = some (h + 665 + 3 * k)) ∧ (∀ k, k < 8 → gl_TL Λ R (h + 665 + 3 * k))
theorem gl_HL.o {Λ : gl_Lay} {R : Nat → Nat → Option Nat} {h : Nat} (H_ : gl_HL Λ R h) : Λ.2 h = (9, 0) := H_.1
theorem gl_HL.k1 {Λ : gl_Lay} {R : Nat → Nat → Option Nat} {h : Nat} (H_ : gl_HL Λ R h) : Λ.2 (h + 1) = (3, 6) := H_.2.1
theorem gl_HL.k2 {Λ : gl_Lay} {R : Nat → Nat → Option Nat} {h : Nat} (H_ : gl_HL Λ R h) : Λ.2 (h + 2) = (4, 16) := H_.2.2.1
theorem gl_HL.k3 {Λ : gl_Lay} {R : Nat → Nat → Option Nat} {h : Nat} (H_ : gl_HL Λ R h) : Λ.2 (h + 3) = (5, 12) := H_.2.2.2.1
theorem gl_HL.k4 {Λ : gl_Lay} {R : Nat → Nat → Option Nat} {h : Nat} (H_ : gl_HL Λ R h) : Λ.2 (h + 4) = (5, 120) := H_.2.2.2.2.1
theorem gl_HL.k5 {Λ : gl_Lay} {R : Nat → Nat → Option Nat} {h : Nat} (H_ : gl_HL Λ R h) : Λ.2 (h + 5) = (6, 8) := H_.2.2.2.2.2.1
theorem gl_HL.k6 {Λ : gl_Lay} {R : Nat → Nat → Option Nat} {h : Nat} (H_ : gl_HL Λ R h) : Λ.2 (h + 6) = (0, 12) := H_.2.2.2.2.2.2.1
theorem gl_HL.r0 {Λ : gl_Lay} {R : Nat → Nat → Option Nat} {h : Nat} (H_ : gl_HL Λ R h) : R h 0 = some (h + 1) := H_.2.2.2.2.2.2.2.1
theorem gl_HL.r1 {Λ : gl_Lay} {R : Nat → Nat → Option Nat} {h : Nat} (H_ : gl_HL Λ R h) : R h 1 = some (h + 2) := H_.2.2.2.2.2.2.2.2.1
theorem gl_HL.r2 {Λ : gl_Lay} {R : Nat → Nat → Option Nat} {h : Nat} (H_ : gl_HL Λ R h) : R h 2 = some (h + 3) := H_.2.2.2.2.2.2.2.2.2.1
theorem gl_HL.r3 {Λ : gl_Lay} {R : Nat → Nat → Option Nat} {h : Nat} (H_ : gl_HL Λ R h) : R h 3 = some (h + 4) := H_.2.2.2.2.2.2.2.2.2.2.1
theorem gl_HL.r4 {Λ : gl_Lay} {R : Nat → Nat → Option Nat} {h : Nat} (H_ : gl_HL Λ R h) : R h 4 = some (h + 5) := H_.2.2.2.2.2.2.2.2.2.2.2.1
theorem gl_HL.r5 {Λ : gl_Lay} {R : Nat → Nat → Option Nat} {h : Nat} (H_ : gl_HL Λ R h) : R h 5 = some (h + 6) := H_.2.2.2.2.2.2.2.2.2.2.2.2.1
theorem gl_HL.lr {Λ : gl_Lay} {R : Nat → Nat → Option Nat} {h : Nat} (H_ : gl_HL Λ R h) : ∀ k, k < 6 → R (h + 1) k = some (h + 7 + 19 * k) := H_.2.2.2.2.2.2.2.2.2.2.2.2.2.1
theorem gl_HL.lg {Λ : gl_Lay} {R : Nat → Nat → Option Nat} {h : Nat} (H_ : gl_HL Λ R h) : ∀ k, k < 6 → gl_LL Λ R (h + 7 + 19 * k) := H_.2.2.2.2.2.2.2.2.2.2.2.2.2.2.1
theorem gl_HL.sr {Λ : gl_Lay} {R : Nat → Nat → Option Nat} {h : Nat} (H_ : gl_HL Λ R h) : ∀ k, k < 16 → R (h + 2) k = some (h + 121 + k) := H_.2.2.2.2.2.2.2.2.2.2.2.2.2.2.2.1
theorem gl_HL.sl {Λ : gl_Lay} {R : Nat → Nat → Option Nat} {h : Nat} (H_ : gl_HL Λ R h) : ∀ k, k < 16 → Λ.2 (h + 121 + k) = (11, 0) := H_.2.2.2.2.2.2.2.2.2.2.2.2.2.2.2.2.1
theorem gl_HL.hr {Λ : gl_Lay} {R : Nat → Nat → Option Nat} {h : Nat} (H_ : gl_HL Λ R h) : ∀ k, k < 12 → R (h + 3) k = some (h + 137 + 4 * k) := H_.2.2.2.2.2.2.2.2.2.2.2.2.2.2.2.2.2.1
theorem gl_HL.hd {Λ : gl_Lay} {R : Nat → Nat → Option Nat} {h : Nat} (H_ : gl_HL Λ R h) : ∀ k, k < 12 → gl_DL Λ R (h + 137 + 4 * k) := H_.2.2.2.2.2.2.2.2.2.2.2.2.2.2.2.2.2.2.1
theorem gl_HL.br {Λ : gl_Lay} {R : Nat → Nat → Option Nat} {h : Nat} (H_ : gl_HL Λ R h) : ∀ k, k < 120 → R (h + 4) k = some (h + 185 + 4 * k) := H_.2.2.2.2.2.2.2.2.2.2.2.2.2.2.2.2.2.2.2.1
theorem gl_HL.bd {Λ : gl_Lay} {R : Nat → Nat → Option Nat} {h : Nat} (H_ : gl_HL Λ R h) : ∀ k, k < 120 → gl_DL Λ R (h + 185 + 4 * k) := H_.2.2.2.2.2.2.2.2.2.2.2.2.2.2.2.2.2.2.2.2.1
theorem gl_HL.wr {Λ : gl_Lay} {R : Nat → Nat → Option Nat} {h : Nat} (H_ : gl_HL Λ R h) : ∀ k, k < 8 → R (h + 5) k = some (h + 665 + 3 * k) := H_.2.2.2.2.2.2.2.2.2.2.2.2.2.2.2.2.2.2.2.2.2.1
theorem gl_HL.wt {Λ : gl_Lay} {R : Nat → Nat → Option Nat} {h : Nat} (H_ : gl_HL Λ R h) : ∀ k, k < 8 → gl_TL Λ R (h + 665 + 3 * k) := H_.2.2.2.2.2.2.2.2.2.2.2.2.2.2.2.2.2.2.2.2.2.2
/-- the whole: 707 cells -/
def gl_GL (Λ : gl_Lay) (R : Nat → Nat → Option Nat) : Prop := Λ.2 0 = (8, 0) ∧ R 0 0 = some 1 ∧ R 0 1 = some 690 ∧ R 0 2 = some 692 ∧ R 0 3 = some 695 ∧ R 0 4 = some 701 ∧ R 0 5 = some 705 ∧ R 0 6 = some 706 ∧ gl_HL Λ R 1 ∧ gl_MX Λ R 690 691 ∧ Λ.2 692 = (15, 0) ∧ Λ.2 693 = (0, 512) ∧ Λ.2 694 = (0, 64) ∧ R 692 0 = some 690 ∧ R 692 1 = some 693 ∧ R 692 2 = some 694 ∧ Λ.2 695 = (16, 0) ∧ Λ.2 696 = (0, 400) ∧ Λ.2 697 = (0, 400) ∧ Λ.2 698 = (0, 3200) ∧ Λ.2 699 = (0, 5600) ∧ Λ.2 700 = (0, 8) ∧ R 695 0 = some 690 ∧ R 695 1 = some 696 ∧ R 695 2 = some 697 ∧ R 695 3 = some 698 ∧ R 695 4 = some 699 ∧ R 695 5 = some 700 ∧ gl_DL Λ R 701 ∧ Λ.2 705 = (0, 2400) ∧ Λ.2 706 = (0, 8)
theorem gl_GL.o {Λ : gl_Lay} {R : Nat → Nat → Option Nat} (H_ : gl_GL Λ R) : Λ.2 0 = (8, 0) := H_.1
theorem gl_GL.r0 {Λ : gl_Lay} {R : Nat → Nat → Option Nat} (H_ : gl_GL Λ R) : R 0 0 = some 1 := H_.2.1
theorem gl_GL.r1 {Λ : gl_Lay} {R : Nat → Nat → Option Nat} (H_ : gl_GL Λ R) : R 0 1 = some 690 := H_.2.2.1
theorem gl_GL.r2 {Λ : gl_Lay} {R : Nat → Nat → Option Nat} (H_ : gl_GL Λ R) : R 0 2 = some 692 := H_.2.2.2.1
theorem gl_GL.r3 {Λ : gl_Lay} {R : Nat → Nat → Option Nat} (H_ : gl_GL Λ R) : R 0 3 = some 695 := H_.2.2.2.2.1
theorem gl_GL.r4 {Λ : gl_Lay} {R : Nat → Nat → Option Nat} (H_ : gl_GL Λ R) : R 0 4 = some 701 := H_.2.2.2.2.2.1
theorem gl_GL.r5 {Λ : gl_Lay} {R : Nat → Nat → Option Nat} (H_ : gl_GL Λ R) : R 0 5 = some 705 := H_.2.2.2.2.2.2.1
theorem gl_GL.r6 {Λ : gl_Lay} {R : Nat → Nat → Option Nat} (H_ : gl_GL Λ R) : R 0 6 = some 706 := H_.2.2.2.2.2.2.2.1
theorem gl_GL.hs {Λ : gl_Lay} {R : Nat → Nat → Option Nat} (H_ : gl_GL Λ R) : gl_HL Λ R 1 := H_.2.2.2.2.2.2.2.2.1
theorem gl_GL.mx {Λ : gl_Lay} {R : Nat → Nat → Option Nat} (H_ : gl_GL Λ R) : gl_MX Λ R 690 691 := H_.2.2.2.2.2.2.2.2.2.1
theorem gl_GL.p0 {Λ : gl_Lay} {R : Nat → Nat → Option Nat} (H_ : gl_GL Λ R) : Λ.2 692 = (15, 0) := H_.2.2.2.2.2.2.2.2.2.2.1
theorem gl_GL.p1 {Λ : gl_Lay} {R : Nat → Nat → Option Nat} (H_ : gl_GL Λ R) : Λ.2 693 = (0, 512) := H_.2.2.2.2.2.2.2.2.2.2.2.1
theorem gl_GL.p2 {Λ : gl_Lay} {R : Nat → Nat → Option Nat} (H_ : gl_GL Λ R) : Λ.2 694 = (0, 64) := H_.2.2.2.2.2.2.2.2.2.2.2.2.1
theorem gl_GL.pr0 {Λ : gl_Lay} {R : Nat → Nat → Option Nat} (H_ : gl_GL Λ R) : R 692 0 = some 690 := H_.2.2.2.2.2.2.2.2.2.2.2.2.2.1
theorem gl_GL.pr1 {Λ : gl_Lay} {R : Nat → Nat → Option Nat} (H_ : gl_GL Λ R) : R 692 1 = some 693 := H_.2.2.2.2.2.2.2.2.2.2.2.2.2.2.1
theorem gl_GL.pr2 {Λ : gl_Lay} {R : Nat → Nat → Option Nat} (H_ : gl_GL Λ R) : R 692 2 = some 694 := H_.2.2.2.2.2.2.2.2.2.2.2.2.2.2.2.1
theorem gl_GL.m0 {Λ : gl_Lay} {R : Nat → Nat → Option Nat} (H_ : gl_GL Λ R) : Λ.2 695 = (16, 0) := H_.2.2.2.2.2.2.2.2.2.2.2.2.2.2.2.2.1
theorem gl_GL.m1 {Λ : gl_Lay} {R : Nat → Nat → Option Nat} (H_ : gl_GL Λ R) : Λ.2 696 = (0, 400) := H_.2.2.2.2.2.2.2.2.2.2.2.2.2.2.2.2.2.1
theorem gl_GL.m2 {Λ : gl_Lay} {R : Nat → Nat → Option Nat} (H_ : gl_GL Λ R) : Λ.2 697 = (0, 400) := H_.2.2.2.2.2.2.2.2.2.2.2.2.2.2.2.2.2.2.1
theorem gl_GL.m3 {Λ : gl_Lay} {R : Nat → Nat → Option Nat} (H_ : gl_GL Λ R) : Λ.2 698 = (0, 3200) := H_.2.2.2.2.2.2.2.2.2.2.2.2.2.2.2.2.2.2.2.1
theorem gl_GL.m4 {Λ : gl_Lay} {R : Nat → Nat → Option Nat} (H_ : gl_GL Λ R) : Λ.2 699 = (0, 5600) := H_.2.2.2.2.2.2.2.2.2.2.2.2.2.2.2.2.2.2.2.2.1
theorem gl_GL.m5 {Λ : gl_Lay} {R : Nat → Nat → Option Nat} (H_ : gl_GL Λ R) : Λ.2 700 = (0, 8) := H_.2.2.2.2.2.2.2.2.2.2.2.2.2.2.2.2.2.2.2.2.2.1
theorem gl_GL.mr0 {Λ : gl_Lay} {R : Nat → Nat → Option Nat} (H_ : gl_GL Λ R) : R 695 0 = some 690 := H_.2.2.2.2.2.2.2.2.2.2.2.2.2.2.2.2.2.2.2.2.2.2.1
theorem gl_GL.mr1 {Λ : gl_Lay} {R : Nat → Nat → Option Nat} (H_ : gl_GL Λ R) : R 695 1 = some 696 := H_.2.2.2.2.2.2.2.2.2.2.2.2.2.2.2.2.2.2.2.2.2.2.2.1
theorem gl_GL.mr2 {Λ : gl_Lay} {R : Nat → Nat → Option Nat} (H_ : gl_GL Λ R) : R 695 2 = some 697 := H_.2.2.2.2.2.2.2.2.2.2.2.2.2.2.2.2.2.2.2.2.2.2.2.2.1
theorem gl_GL.mr3 {Λ : gl_Lay} {R : Nat → Nat → Option Nat} (H_ : gl_GL Λ R) : R 695 3 = some 698 := H_.2.2.2.2.2.2.2.2.2.2.2.2.2.2.2.2.2.2.2.2.2.2.2.2.2.1
theorem gl_GL.mr4 {Λ : gl_Lay} {R : Nat → Nat → Option Nat} (H_ : gl_GL Λ R) : R 695 4 = some 699 := H_.2.2.2.2.2.2.2.2.2.2.2.2.2.2.2.2.2.2.2.2.2.2.2.2.2.2.1
theorem gl_GL.mr5 {Λ : gl_Lay} {R : Nat → Nat → Option Nat} (H_ : gl_GL Λ R) : R 695 5 = some 700 := H_.2.2.2.2.2.2.2.2.2.2.2.2.2.2.2.2.2.2.2.2.2.2.2.2.2.2.2.1
theorem gl_GL.ak {Λ : gl_Lay} {R : Nat → Nat → Option Nat} (H_ : gl_GL Λ R) : gl_DL Λ R 701 := H_.2.2.2.2.2.2.2.2.2.2.2.2.2.2.2.2.2.2.2.2.2.2.2.2.2.2.2.2.1
theorem gl_GL.sc {Λ : gl_Lay} {R : Nat → Nat → Option Nat} (H_ : gl_GL Λ R) : Λ.2 705 = (0, 2400) := H_.2.2.2.2.2.2.2.2.2.2.2.2.2.2.2.2.2.2.2.2.2.2.2.2.2.2.2.2.2.1
theorem gl_GL.mk {Λ : gl_Lay} {R : Nat → Nat → Option Nat} (H_ : gl_GL Λ R) : Λ.2 706 = (0, 8) := H_.2.2.2.2.2.2.2.2.2.2.2.2.2.2.2.2.2.2.2.2.2.2.2.2.2.2.2.2.2.2
def gl_il (v lo hi : Int64) : Bool := decide (¬ v < lo ∧ ¬ hi < v)
set_option maxHeartbeats 4000000 in
set_option maxRecDepth 100000 in
theorem ct_X0_in {l : Launch} {δ : gl_Del} {S : gl_Sto} {v lo hi : Int64} (h : Nat) (hh : 1 ≤ h)  : gl_Ct l δ yX0_in (ws_ yX0_in cX0_in 6 ((some FieldType.boolean))) (gl_rm h 0 0) 0 0 [.long v, .long lo, .long hi] S (gl_Qi fun r S1 => r = b2i (gl_il v lo hi) ∧ S1 = S) := by
  refine gl_of (by decide) (Nat.le_of_ble_eq_true rfl) rfl ?_
  intro κ C hQ hlκ hδκ hnL hini
  change gl_Cx κ RX0 _ _ _ at C
  refine j_lload_n C dX0_in_0 rfl 1 rfl ?_
  refine j_lload_n C dX0_in_1 rfl 2 rfl ?_
  refine j_lcmp C dX0_in_2 3 rfl ?_
  refine j_if_lt C 17 6 dX0_in_3 (by decide) rfl (fun c_3 => ?_) (fun c_3 => ?_)
  · refine j_iconst (v := b2i false) C dX0_in_17 (by decide) 18 rfl ?_
    exact j_zret C hQ ⟨by rw [gl_il, decide_eq_false (fun q => q.1 ((lg_cmp_lt _ _).mp c_3))], rfl⟩ (by omega) (by omega) dX0_in_18
  · refine j_lload_n C dX0_in_6 rfl 7 rfl ?_
    refine j_lload C dX0_in_7 rfl 9 rfl ?_
    refine j_lcmp C dX0_in_9 10 rfl ?_
    refine j_if_gt C 17 13 dX0_in_10 (by decide) rfl (fun c_10 => ?_) (fun c_10 => ?_)
    · refine j_iconst (v := b2i false) C dX0_in_17 (by decide) 18 rfl ?_
      exact j_zret C hQ ⟨by rw [gl_il, decide_eq_false (fun q => q.2 ((lg_cmp_gt _ _).mp c_10))], rfl⟩ (by omega) (by omega) dX0_in_18
    · refine j_iconst (v := b2i true) C dX0_in_13 (by decide) 14 rfl ?_
      refine j_goto (tgt := 18) C dX0_in_14 (by decide) ?_
      exact j_zret C hQ ⟨by rw [gl_il, decide_eq_true ⟨fun q => c_3 ((lg_cmp_lt _ _).mpr q), fun q => c_10 ((lg_cmp_gt _ _).mpr q)⟩], rfl⟩ (by omega) (by omega) dX0_in_18
theorem gl_il_i {x lo hi : Int32} : gl_il x.toInt64 lo.toInt64 hi.toInt64 = decide (¬ x < lo ∧ ¬ hi < x) := by
  unfold gl_il
  simp only [Int64.lt_iff_toInt_lt, Int32.lt_iff_toInt_lt, Int32.toInt_toInt64]
theorem gl_il_n {x : Int32} {n : Nat} (hn : n < 2 ^ 30) : gl_il x.toInt64 (lN 0) (nI n - nI 1).toInt64 = gl_in x n := by
  rw [show lN 0 = (0 : Int32).toInt64 from rfl, gl_il_i]
  unfold gl_in
  have e : (nI n - nI 1 < x) ↔ nI n ≤ x := by
    rw [Int32.lt_iff_toInt_lt, Int32.le_iff_toInt_le, pk_sub_toInt hn (by omega), nI_toInt (by omega)]
    omega
  rw [decide_eq_decide, e]
theorem gl_il_c {x : Int32} {n : Nat} (hn : n < 2 ^ 29) : gl_il x.toInt64 (lN 0) (lN n) = gl_in x (n + 1) := by
  rw [← nI_l (show n < 2 ^ 31 by omega)]
  have := gl_il_n (x := x) (n := n + 1) (by omega)
  rw [show nI (n + 1) - nI 1 = nI n by rw [pk_sub (by omega)]; rfl] at this
  exact this
def gl_zr : Nat → Int32 := fun _ => nI 0
set_option maxHeartbeats 4000000 in
set_option maxRecDepth 100000 in
theorem ct_X0_clear {l : Launch} {δ : gl_Del} {Λ : gl_Lay} {I : Nat → Nat → Int32} {L : Nat → Nat → Int64} {B : Nat → Nat → Bool} {R : Nat → Nat → Option Nat} {x nx p : Nat} (h : Nat) (hh : 1 ≤ h) (hx : Λ.2 x = (0, nx)) (hp : p + 8 ≤ nx) (hnx : nx < 2 ^ 31) : gl_Ct l δ yX0_clear (ws_ yX0_clear cX0_clear 3 none) (gl_rm h 0 0) 0 0 [.ref x, .int (nI p)] (Λ, I, L, B, R) (gl_Qv fun S => S = (Λ, va_up I x (va_cpy gl_zr (I x) 0 p 8), L, B, R)) := by
  refine gl_of (by decide) (Nat.le_of_ble_eq_true rfl) rfl ?_
  intro κ C hQ hlκ hδκ hnL hini
  change gl_Cx κ RX0 _ _ _ at C
  have loop : ∀ k j : Nat, j + k = 8 → gl_J κ 0 0 (Λ, va_up I x (va_cpy gl_zr (I x) 0 p j), L, B, R) 2 [some (.ref x), some (.int (nI p)), some (.int (nI j))] [] := by
    intro k
    induction k with
    | zero =>
      intro j hj
      have hjN : j = 8 := by omega
      subst hjN
      refine j_iload_n C dX0_clear_2 rfl 3 rfl ?_
      refine j_bipush (v := nI 8) C dX0_clear_3 (by decide) 5 rfl ?_
      refine n_icmp_ge C 20 8 dX0_clear_5 (by decide) rfl (by omega) (by omega) (fun c_5 => ?_) (fun c_5 => ?_)
      · exact j_ret C hQ rfl (by omega) (by omega) dX0_clear_20
      · exact absurd c_5 (by omega)
    | succ k ih =>
      intro j hj
      refine j_iload_n C dX0_clear_2 rfl 3 rfl ?_
      refine j_bipush (v := nI 8) C dX0_clear_3 (by decide) 5 rfl ?_
      refine n_icmp_ge C 20 8 dX0_clear_5 (by decide) rfl (by omega) (by omega) (fun c_5 => ?_) (fun c_5 => ?_)
      · exact absurd c_5 (by omega)
      · refine j_aload_n C dX0_clear_8 rfl 9 rfl ?_
        refine j_iload_n C dX0_clear_9 rfl 10 rfl ?_
        refine j_iload_n C dX0_clear_10 rfl 11 rfl ?_
        refine n_iadd C dX0_clear_11 12 rfl ?_
        refine j_iconst (v := nI 0) C dX0_clear_12 (by decide) 13 rfl ?_
        refine j_iast C hx (by omega) hnx dX0_clear_13 14 rfl ?_
        refine n_iinc C dX0_clear_14 rfl (by rw [hnL]; decide) rfl 17 rfl ?_
        refine j_goto (tgt := 2) C dX0_clear_17 (by decide) ?_
        rw [gl_u2_up, show nI 0 = gl_zr j from rfl, gl_cpy_s]
        exact ih (j + 1) (by omega)
  refine j_iconst (v := nI 0) C dX0_clear_0 (by decide) 1 rfl ?_
  refine j_istore_n C dX0_clear_1 (Nat.le_of_ble_eq_true rfl) (by rw [hnL]; decide) rfl 2 rfl ?_
  have := loop 8 0 rfl
  rw [gl_cpy_0, gl_up_self] at this
  exact this
set_option maxHeartbeats 4000000 in
set_option maxRecDepth 100000 in
theorem ct_X0_bit {l : Launch} {δ : gl_Del} {Λ : gl_Lay} {I : Nat → Nat → Int32} {L : Nat → Nat → Int64} {B : Nat → Nat → Bool} {R : Nat → Nat → Option Nat} {x nx fr d : Nat} (h : Nat) (hh : 1 ≤ h) (hx : Λ.2 x = (0, nx)) (hfr : fr + 8 ≤ nx) (hnx : nx < 2 ^ 31) (hd : d < 256) : gl_Ct l δ yX0_bit (ws_ yX0_bit cX0_bit 3 ((some FieldType.boolean))) (gl_rm h 0 0) 0 0 [.ref x, .int (nI fr), .int (nI d)] (Λ, I, L, B, R) (gl_Qi fun r S => r = b2i (gl_bit (fun t => I x (fr + t)) d) ∧ S = (Λ, I, L, B, R)) := by
  refine gl_of (by decide) (Nat.le_of_ble_eq_true rfl) rfl ?_
  intro κ C hQ hlκ hδκ hnL hini
  change gl_Cx κ RX0 _ _ _ at C
  refine j_aload_n C dX0_bit_0 rfl 1 rfl ?_
  refine j_iload_n C dX0_bit_1 rfl 2 rfl ?_
  refine j_iload_n C dX0_bit_2 rfl 3 rfl ?_
  refine j_bipush (v := nI 32) C dX0_bit_3 (by decide) 5 rfl ?_
  refine n_idiv C dX0_bit_5 (by omega) (by omega) (by omega) 6 rfl ?_
  refine n_iadd C dX0_bit_6 7 rfl ?_
  refine j_iald C hx (by omega) hnx dX0_bit_7 8 rfl ?_
  refine j_bipush (v := nI 31) C dX0_bit_8 (by decide) 10 rfl ?_
  refine j_iload_n C dX0_bit_10 rfl 11 rfl ?_
  refine j_bipush (v := nI 32) C dX0_bit_11 (by decide) 13 rfl ?_
  refine n_irem C dX0_bit_13 (by omega) (by omega) (by omega) 14 rfl ?_
  refine n_isub C dX0_bit_14 (by omega) 15 rfl ?_
  refine j_iushr C dX0_bit_15 16 rfl ?_
  refine j_iconst (v := nI 1) C dX0_bit_16 (by decide) 17 rfl ?_
  refine j_iand C dX0_bit_17 18 rfl ?_
  refine j_iconst (v := nI 1) C dX0_bit_18 (by decide) 19 rfl ?_
  refine j_icmp_ne C 26 22 dX0_bit_19 (by decide) rfl (fun c_19 => ?_) (fun c_19 => ?_)
  · refine j_iconst (v := b2i false) C dX0_bit_26 (by decide) 27 rfl ?_
    exact j_zret C hQ ⟨by rw [gl_bit, decide_eq_false c_19], rfl⟩ (by omega) (by omega) dX0_bit_27
  · refine j_iconst (v := b2i true) C dX0_bit_22 (by decide) 23 rfl ?_
    refine j_goto (tgt := 27) C dX0_bit_23 (by decide) ?_
    exact j_zret C hQ ⟨by rw [gl_bit, decide_eq_true c_19], rfl⟩ (by omega) (by omega) dX0_bit_27
set_option maxHeartbeats 4000000 in
set_option maxRecDepth 100000 in
theorem ct_X0_isLike {l : Launch} {δ : gl_Del} {Λ : gl_Lay} {I : Nat → Nat → Int32} {L : Nat → Nat → Int64} {B : Nat → Nat → Bool} {R : Nat → Nat → Option Nat} {x y nx ny p q : Nat} (h : Nat) (hh : 1 ≤ h) (hx : Λ.2 x = (0, nx)) (hp : p + 8 ≤ nx) (hnx : nx < 2 ^ 31) (hy : Λ.2 y = (0, ny)) (hq : q + 8 ≤ ny) (hny : ny < 2 ^ 31) : gl_Ct l δ yX0_isLike (ws_ yX0_isLike cX0_isLike 6 ((some FieldType.boolean))) (gl_rm h 0 0) 0 0 [.ref x, .int (nI p), .ref y, .int (nI q)] (Λ, I, L, B, R) (gl_Qi fun r S => r = b2i (gl_lk (fun t => I x (p + t)) (fun t => I y (q + t)) 8) ∧ S = (Λ, I, L, B, R)) := by
  refine gl_of (by decide) (Nat.le_of_ble_eq_true rfl) rfl ?_
  intro κ C hQ hlκ hδκ hnL hini
  change gl_Cx κ RX0 _ _ _ at C
  have loop : ∀ k j : Nat, j + k = 8 → gl_J κ 0 0 (Λ, I, L, B, R) 6 [some (.ref x), some (.int (nI p)), some (.ref y), some (.int (nI q)), some (.int (b2i (gl_lk (fun t => I x (p + t)) (fun t => I y (q + t)) j))), some (.int (nI j))] [] := by
    intro k
    induction k with
    | zero =>
      intro j hj
      have hjN : j = 8 := by omega
      subst hjN
      refine j_iload C dX0_isLike_6 rfl 8 rfl ?_
      refine j_bipush (v := nI 8) C dX0_isLike_8 (by decide) 10 rfl ?_
      refine n_icmp_ge C 46 13 dX0_isLike_10 (by decide) rfl (by omega) (by omega) (fun c_10 => ?_) (fun c_10 => ?_)
      · refine j_iload C dX0_isLike_46 rfl 48 rfl ?_
        exact j_zret C hQ ⟨rfl, rfl⟩ (by omega) (by omega) dX0_isLike_48
      · exact absurd c_10 (by omega)
    | succ k ih =>
      intro j hj
      refine j_iload C dX0_isLike_6 rfl 8 rfl ?_
      refine j_bipush (v := nI 8) C dX0_isLike_8 (by decide) 10 rfl ?_
      refine n_icmp_ge C 46 13 dX0_isLike_10 (by decide) rfl (by omega) (by omega) (fun c_10 => ?_) (fun c_10 => ?_)
      · exact absurd c_10 (by omega)
      · refine j_iload C dX0_isLike_13 rfl 15 rfl ?_
        refine b_if_eq C 37 18 dX0_isLike_15 (by decide) rfl (fun c_15 => ?_) (fun c_15 => ?_)
        · refine j_iconst (v := b2i false) C dX0_isLike_37 (by decide) 38 rfl ?_
          refine j_istore C dX0_isLike_38 (Nat.le_of_ble_eq_true rfl) (by rw [hnL]; decide) rfl 40 rfl ?_
          refine n_iinc C dX0_isLike_40 rfl (by rw [hnL]; decide) rfl 43 rfl ?_
          refine j_goto (tgt := 6) C dX0_isLike_43 (by decide) ?_
          have e : gl_lk (fun t => I x (p + t)) (fun t => I y (q + t)) (j + 1) = false := by rw [gl_lk, c_15]; rfl
          have := ih (j + 1) (by omega)
          rw [e] at this
          exact this
        · refine j_aload_n C dX0_isLike_18 rfl 19 rfl ?_
          refine j_iload_n C dX0_isLike_19 rfl 20 rfl ?_
          refine j_iload C dX0_isLike_20 rfl 22 rfl ?_
          refine n_iadd C dX0_isLike_22 23 rfl ?_
          refine j_iald C hx (by omega) hnx dX0_isLike_23 24 rfl ?_
          refine j_aload_n C dX0_isLike_24 rfl 25 rfl ?_
          refine j_iload_n C dX0_isLike_25 rfl 26 rfl ?_
          refine j_iload C dX0_isLike_26 rfl 28 rfl ?_
          refine n_iadd C dX0_isLike_28 29 rfl ?_
          refine j_iald C hy (by omega) hny dX0_isLike_29 30 rfl ?_
          refine j_icmp_ne C 37 33 dX0_isLike_30 (by decide) rfl (fun c_30 => ?_) (fun c_30 => ?_)
          · refine j_iconst (v := b2i false) C dX0_isLike_37 (by decide) 38 rfl ?_
            refine j_istore C dX0_isLike_38 (Nat.le_of_ble_eq_true rfl) (by rw [hnL]; decide) rfl 40 rfl ?_
            refine n_iinc C dX0_isLike_40 rfl (by rw [hnL]; decide) rfl 43 rfl ?_
            refine j_goto (tgt := 6) C dX0_isLike_43 (by decide) ?_
            have e : gl_lk (fun t => I x (p + t)) (fun t => I y (q + t)) (j + 1) = false := by rw [gl_lk, decide_eq_false c_30, Bool.and_false]
            have := ih (j + 1) (by omega)
            rw [e] at this
            exact this
          · refine j_iconst (v := b2i true) C dX0_isLike_33 (by decide) 34 rfl ?_
            refine j_goto (tgt := 38) C dX0_isLike_34 (by decide) ?_
            refine j_istore C dX0_isLike_38 (Nat.le_of_ble_eq_true rfl) (by rw [hnL]; decide) rfl 40 rfl ?_
            refine n_iinc C dX0_isLike_40 rfl (by rw [hnL]; decide) rfl 43 rfl ?_
            refine j_goto (tgt := 6) C dX0_isLike_43 (by decide) ?_
            have e : gl_lk (fun t => I x (p + t)) (fun t => I y (q + t)) (j + 1) = true := by rw [gl_lk, c_15, decide_eq_true c_30]; rfl
            have := ih (j + 1) (by omega)
            rw [e] at this
            exact this
  refine j_iconst (v := b2i true) C dX0_isLike_0 (by decide) 1 rfl ?_
  refine j_istore C dX0_isLike_1 (Nat.le_of_ble_eq_true rfl) (by rw [hnL]; decide) rfl 3 rfl ?_
  refine j_iconst (v := nI 0) C dX0_isLike_3 (by decide) 4 rfl ?_
  refine j_istore C dX0_isLike_4 (Nat.le_of_ble_eq_true rfl) (by rw [hnL]; decide) rfl 6 rfl ?_
  exact loop 8 0 rfl
theorem gl_bit_mod {a r : Nat} (h : a % 2 ^ r = 0) : a / 2 ^ r % 2 = 0 ↔ a % 2 ^ (r + 1) = 0 := by
  rw [Nat.pow_succ, Nat.mod_mul, h, Nat.zero_add]
  have := Nat.two_pow_pos r
  constructor
  · intro e; rw [e, Nat.mul_zero]
  · intro e
    rcases Nat.mul_eq_zero.mp e with h1 | h1
    · omega
    · exact h1
set_option maxHeartbeats 4000000 in
set_option maxRecDepth 100000 in
theorem ct_X0_level {l : Launch} {δ : gl_Del} {S : gl_Sto} {a b : Nat} (h : Nat) (hh : 1 ≤ h) (ha : a ≤ 400) (hb : b ≤ 400) : gl_Ct l δ yX0_level (ws_ yX0_level cX0_level 3 ((some FieldType.int))) (gl_rm h 0 0) 0 0 [.int (nI a), .int (nI b)] S (gl_Qi fun r S1 => r = nI (gl_lv a b) ∧ S1 = S) := by
  refine gl_of (by decide) (Nat.le_of_ble_eq_true rfl) rfl ?_
  intro κ C hQ hlκ hδκ hnL hini
  change gl_Cx κ RX0 _ _ _ at C
  have loop : ∀ f r : Nat, r ≤ 10 → 2 ^ r ≤ 1024 → b < 2 ^ (r + f + 1) → a % 2 ^ r = 0 → gl_lvf a b f r = gl_lv a b → gl_J κ 0 0 S 2 [some (.int (nI a)), some (.int (nI b)), some (.int (nI r))] [] := by
    intro f
    induction f with
    | zero =>
      intro r hr10 hr hf ham hres
      have h0 : 0 < 2 ^ r := Nat.two_pow_pos r
      have e1 : 2 ^ (r + 1) = 2 ^ r * 2 := Nat.pow_succ 2 r
      have hf : b < 2 ^ r * 2 := by rw [← e1]; exact hf
      refine j_iload_n C dX0_level_2 rfl 3 rfl ?_
      refine j_iload_n C dX0_level_3 rfl 4 rfl ?_
      refine n_ishr C dX0_level_4 (by omega) (by omega) 5 rfl ?_
      refine j_iconst (v := nI 1) C dX0_level_5 (by decide) 6 rfl ?_
      refine n_iand C dX0_level_6 (Nat.lt_of_le_of_lt (Nat.div_le_self _ _) (by omega)) 7 rfl ?_
      refine n_if_ne C 25 10 dX0_level_7 (by decide) rfl (by omega) (fun c_7 => ?_) (fun c_7 => ?_)
      · refine j_iload_n C dX0_level_25 rfl 26 rfl ?_
        exact j_iret C hQ ⟨by rw [← hres]; rfl, rfl⟩ (by omega) (by omega) dX0_level_26
      · refine j_iload_n C dX0_level_10 rfl 11 rfl ?_
        refine j_iconst (v := nI 2) C dX0_level_11 (by decide) 12 rfl ?_
        refine j_iload_n C dX0_level_12 rfl 13 rfl ?_
        refine n_ishl C dX0_level_13 (by omega) (by omega) 14 rfl ?_
        refine n_iadd C dX0_level_14 15 rfl ?_
        refine j_iload_n C dX0_level_15 rfl 16 rfl ?_
        refine n_icmp_gt C 25 19 dX0_level_16 (by decide) rfl (by omega) (by omega) (fun c_16 => ?_) (fun c_16 => ?_)
        · refine j_iload_n C dX0_level_25 rfl 26 rfl ?_
          exact j_iret C hQ ⟨by rw [← hres]; rfl, rfl⟩ (by omega) (by omega) dX0_level_26
        · exact absurd c_16 (by omega)
    | succ f ih =>
      intro r hr10 hr hf ham hres
      have h0 : 0 < 2 ^ r := Nat.two_pow_pos r
      have e1 : 2 ^ (r + 1) = 2 ^ r * 2 := Nat.pow_succ 2 r
      have hr9 : a + 2 * 2 ^ r ≤ b → r + 1 ≤ 10 := by
        intro q
        rcases Nat.lt_or_ge r 9 with h9 | h9
        · omega
        · have := Nat.pow_le_pow_right (show 0 < 2 by decide) h9
          have e9 : (2 : Nat) ^ 9 = 512 := by decide
          omega
      refine j_iload_n C dX0_level_2 rfl 3 rfl ?_
      refine j_iload_n C dX0_level_3 rfl 4 rfl ?_
      refine n_ishr C dX0_level_4 (by omega) (by omega) 5 rfl ?_
      refine j_iconst (v := nI 1) C dX0_level_5 (by decide) 6 rfl ?_
      refine n_iand C dX0_level_6 (Nat.lt_of_le_of_lt (Nat.div_le_self _ _) (by omega)) 7 rfl ?_
      refine n_if_ne C 25 10 dX0_level_7 (by decide) rfl (by omega) (fun c_7 => ?_) (fun c_7 => ?_)
      · refine j_iload_n C dX0_level_25 rfl 26 rfl ?_
        exact j_iret C hQ ⟨by rw [← hres, gl_lvf_no (fun q => c_7 ((gl_bit_mod ham).mpr q.1))], rfl⟩ (by omega) (by omega) dX0_level_26
      · refine j_iload_n C dX0_level_10 rfl 11 rfl ?_
        refine j_iconst (v := nI 2) C dX0_level_11 (by decide) 12 rfl ?_
        refine j_iload_n C dX0_level_12 rfl 13 rfl ?_
        refine n_ishl C dX0_level_13 (by omega) (by omega) 14 rfl ?_
        refine n_iadd C dX0_level_14 15 rfl ?_
        refine j_iload_n C dX0_level_15 rfl 16 rfl ?_
        refine n_icmp_gt C 25 19 dX0_level_16 (by decide) rfl (by omega) (by omega) (fun c_16 => ?_) (fun c_16 => ?_)
        · refine j_iload_n C dX0_level_25 rfl 26 rfl ?_
          exact j_iret C hQ ⟨by rw [← hres, gl_lvf_no (fun q => by have := q.2; rw [e1] at this; omega)], rfl⟩ (by omega) (by omega) dX0_level_26
        · refine n_iinc C dX0_level_19 rfl (by rw [hnL]; decide) rfl 22 rfl ?_
          refine j_goto (tgt := 2) C dX0_level_22 (by decide) ?_
          exact ih (r + 1) (hr9 (by omega)) (by rw [e1]; omega) (by rw [show r + 1 + f = r + (f + 1) by omega]; exact hf) ((gl_bit_mod ham).mp c_7) (by rw [← hres, gl_lvf_yes ((gl_bit_mod ham).mp c_7) (by rw [e1]; omega)])
  refine j_iconst (v := nI 0) C dX0_level_0 (by decide) 1 rfl ?_
  refine j_istore_n C dX0_level_1 (Nat.le_of_ble_eq_true rfl) (by rw [hnL]; decide) rfl 2 rfl ?_
  exact loop 9 0 (by decide) (by decide) (Nat.lt_of_le_of_lt hb (by decide)) (Nat.mod_one a) rfl
