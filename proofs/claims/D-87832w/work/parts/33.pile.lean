/-! MODULE piles (pure): blocks that follow one another, top first; the reference's rows that hold them -/
set_option maxRecDepth 100000
def gl_t8 (f : Nat → Int32) : Nat → Int32 := fun t => if t < 8 then f t else 0
theorem gl_t8_lt {f : Nat → Int32} {t : Nat} (h : t < 8) : gl_t8 f t = f t := if_pos h
abbrev gl_Pl : Type := List (Nat × (Nat → Int32))
/-- the top block is merged downwards -/
def gl_mg (nx : Nat) : Nat → (Nat → Int32) → gl_Pl → gl_Pl
  | e, r, [] => [(e, r)]
  | e, r, (e0, r0) :: p => if e0 = e ∧ nx % 2 ^ (e + 1) = 0 then gl_mg nx (e + 1) (gl_t8 (gl_join r0 r)) p else (e, r) :: (e0, r0) :: p
def gl_lay (nx e : Nat) (r : Nat → Int32) (p : gl_Pl) : gl_Pl := gl_mg (nx + 2 ^ e) e (gl_t8 r) p
def gl_sz : gl_Pl → Nat
  | [] => 0
  | (e, _) :: p => 2 ^ e + gl_sz p
def gl_topf (acc : Nat → Int32) : gl_Pl → Nat → Int32
  | [] => acc
  | (_, r) :: p => gl_topf (gl_join r acc) p
def gl_top : gl_Pl → Nat → Int32
  | [] => fun _ => 0
  | (_, r) :: p => gl_topf r p
theorem gl_sz_mg (nx : Nat) : ∀ (p : gl_Pl) (e : Nat) (r : Nat → Int32), gl_sz (gl_mg nx e r p) = 2 ^ e + gl_sz p
  | [], e, r => rfl
  | (e0, r0) :: p, e, r => by
    unfold gl_mg
    by_cases h : e0 = e ∧ nx % 2 ^ (e + 1) = 0
    · rw [if_pos h, gl_sz_mg nx p (e + 1), gl_sz, h.1, Nat.pow_succ]
      omega
    · rw [if_neg h]; rfl
theorem gl_sz_lay {nx e : Nat} {r : Nat → Int32} {p : gl_Pl} : gl_sz (gl_lay nx e r p) = 2 ^ e + gl_sz p := gl_sz_mg _ _ _ _
/-- levels fall from the ground up (grow from the top down), all at least m -/
def gl_inc : Nat → gl_Pl → Prop
  | _, [] => True
  | m, (e, _) :: p => m ≤ e ∧ gl_inc (e + 1) p
theorem gl_inc_mono : ∀ {p : gl_Pl} {m m' : Nat}, m' ≤ m → gl_inc m p → gl_inc m' p
  | [], _, _, _, _ => trivial
  | (_, _) :: _, _, _, h, hp => ⟨Nat.le_trans h hp.1, hp.2⟩
theorem gl_inc_sz : ∀ {p : gl_Pl} {m : Nat}, gl_inc m p → gl_sz p % 2 ^ m = 0
  | [], m, _ => Nat.zero_mod _
  | (e, r) :: p, m, h => by
    have h2 := gl_inc_sz h.2
    obtain ⟨d, hd⟩ := Nat.exists_eq_add_of_le h.1
    have e1 : 2 ^ e = 2 ^ m * 2 ^ d := by rw [hd, Nat.pow_add]
    obtain ⟨c, hc⟩ := Nat.dvd_of_mod_eq_zero h2
    have e2 : gl_sz ((e, r) :: p) = 2 ^ m * (2 ^ d + 2 * 2 ^ d * c) := by
      rw [gl_sz, hc, Nat.pow_succ, e1, Nat.mul_add]
      congr 1
      rw [Nat.mul_assoc, Nat.mul_assoc, Nat.mul_assoc, Nat.mul_left_comm (2 ^ d) 2 c]
    rw [e2]
    exact Nat.mul_mod_right _ _
theorem gl_inc_len : ∀ {p : gl_Pl} {m : Nat}, gl_inc m p → m ≤ 10 → gl_sz p < 1024 → p.length ≤ 10 - m
  | [], _, _, _, _ => by simp
  | (e, r) :: p, m, h, hm, hs => by
    have h1 : 2 ^ e < 2 ^ 10 := by
      have : 2 ^ e ≤ gl_sz ((e, r) :: p) := Nat.le_add_right _ _
      exact Nat.lt_of_le_of_lt this hs
    have he : e < 10 := (Nat.pow_lt_pow_iff_right (by decide)).mp h1
    have h2 := gl_inc_len h.2 (by omega) (by have : gl_sz ((e, r) :: p) = 2 ^ e + gl_sz p := rfl; have := Nat.two_pow_pos e; omega)
    have := h.1
    simp only [List.length_cons]
    omega
theorem gl_inc_mg {nx : Nat} : ∀ {p : gl_Pl} {e m : Nat} {r : Nat → Int32}, m ≤ e → gl_inc e p → nx = 2 ^ e + gl_sz p → gl_inc m (gl_mg nx e r p)
  | [], e, m, r, h, _, _ => ⟨h, trivial⟩
  | (e0, r0) :: p, e, m, r, h, hp, hn => by
    unfold gl_mg
    by_cases hq : e0 = e ∧ nx % 2 ^ (e + 1) = 0
    · rw [if_pos hq]
      obtain ⟨rfl, -⟩ := hq
      exact gl_inc_mg (Nat.le_succ_of_le h) hp.2 (by rw [hn, gl_sz, Nat.pow_succ]; omega)
    · rw [if_neg hq]
      refine ⟨h, ?_, hp.2⟩
      rcases Nat.lt_or_ge e e0 with h1 | h1
      · exact h1
      · have : e0 = e := Nat.le_antisymm h1 hp.1
        subst this
        refine absurd ⟨rfl, ?_⟩ hq
        have h3 := gl_inc_sz hp.2
        rw [hn, gl_sz, show 2 ^ e0 + (2 ^ e0 + gl_sz p) = gl_sz p + 2 ^ (e0 + 1) by rw [Nat.pow_succ]; omega, Nat.add_mod_right]
        exact h3
/-- a block that belongs at the end is laid there: the levels stay in order -/
theorem gl_inc_lay {p : gl_Pl} {e : Nat} {r : Nat → Int32} (hp : gl_inc 0 p) (hd : gl_sz p % 2 ^ e = 0) : gl_inc 0 (gl_lay (gl_sz p) e r p) := by
  refine gl_inc_mg (Nat.zero_le _) ?_ (Nat.add_comm _ _)
  cases p with
  | nil => trivial
  | cons q p =>
    obtain ⟨e0, r0⟩ := q
    refine ⟨?_, hp.2⟩
    rcases Nat.lt_or_ge e0 e with h1 | h1
    · exfalso
      have h3 := gl_inc_sz hp.2
      obtain ⟨d, hdd⟩ := Nat.exists_eq_add_of_le (Nat.succ_le_of_lt h1)
      have h4 : gl_sz ((e0, r0) :: p) % 2 ^ (e0 + 1) = 0 := by
        refine Nat.mod_eq_zero_of_dvd (Nat.dvd_trans ?_ (Nat.dvd_of_mod_eq_zero hd))
        exact Nat.pow_dvd_pow 2 h1
      have h5 : gl_sz ((e0, r0) :: p) = 2 ^ e0 + gl_sz p := rfl
      have h6 : (2 ^ e0 + gl_sz p) % 2 ^ (e0 + 1) = 2 ^ e0 := by
        rw [Nat.add_mod, h3, Nat.add_zero, Nat.mod_mod, Nat.mod_eq_of_lt (Nat.pow_lt_pow_right (by decide) (Nat.lt_succ_self e0))]
      rw [h5, h6] at h4
      have := Nat.two_pow_pos e0
      omega
    · exact h1
/-- what a run leaves as it was: all rows but those of X, all numbers of the object but those of Y -/
def gl_fq (X Y : List Nat) (I I' : Nat → Nat → Int32) : Prop := (∀ c, c ≠ 0 → c ∉ X → I' c = I c) ∧ ∀ k, k ∉ Y → I' 0 k = I 0 k
theorem gl_fq.rf {X Y : List Nat} {I : Nat → Nat → Int32} : gl_fq X Y I I := ⟨fun _ _ _ => rfl, fun _ _ => rfl⟩
theorem gl_fq.tr {X Y : List Nat} {I J K : Nat → Nat → Int32} (h1 : gl_fq X Y I J) (h2 : gl_fq X Y J K) : gl_fq X Y I K := ⟨fun c hc hx => (h2.1 c hc hx).trans (h1.1 c hc hx), fun k hk => (h2.2 k hk).trans (h1.2 k hk)⟩
theorem gl_fq.mo {X Y X' Y' : List Nat} {I J : Nat → Nat → Int32} (h : gl_fq X Y I J) (hX : ∀ c ∈ X, c ∈ X') (hY : ∀ c ∈ Y, c ∈ Y') : gl_fq X' Y' I J := ⟨fun c hc hx => h.1 c hc (fun q => hx (hX c q)), fun k hk => h.2 k (fun q => hk (hY k q))⟩
theorem gl_fq.up {X Y : List Nat} {I J : Nat → Nat → Int32} {c : Nat} {r : Nat → Int32} (h : gl_fq X Y I J) (hc : c ∈ X) (h0 : c ≠ 0) : gl_fq X Y I (va_up J c r) := ⟨fun d hd hx => by rw [gl_up_ne (show d ≠ c from fun q => hx (by rw [q]; exact hc))]; exact h.1 d hd hx, fun k hk => by rw [gl_up_ne (Ne.symm h0)]; exact h.2 k hk⟩
theorem gl_fq.u2 {X Y : List Nat} {I J : Nat → Nat → Int32} {c j : Nat} {v : Int32} (h : gl_fq X Y I J) (hc : c ∈ X) (h0 : c ≠ 0) : gl_fq X Y I (gl_u2 J c j v) := h.up hc h0
theorem gl_fq.wm {X Y : List Nat} {I J : Nat → Nat → Int32} {w m : Nat → Int32} (h : gl_fq X Y I J) (h9 : 39 ∈ X) (h0 : 40 ∈ X) : gl_fq X Y I (gl_wm J w m) := (h.up h9 (by decide)).up h0 (by decide)
theorem gl_fq.sc {X Y : List Nat} {I J : Nat → Nat → Int32} {k : Nat} {v : Int32} (h : gl_fq X Y I J) (hk : k ∈ Y) : gl_fq X Y I (gl_u2 J 0 k v) := ⟨fun c hc hx => by rw [gl_u2_ne hc]; exact h.1 c hc hx, fun j hj => by
  rw [gl_u2_eq, gl_up_ne (show j ≠ k from fun q => hj (by rw [q]; exact hk))]
  exact h.2 j hj⟩
/-- the reference's rows hold a pile -/
def gl_mpr (F Z U : Nat → Int32) : gl_Pl → Prop
  | [] => True
  | (e, r) :: p => F p.length = nI (gl_sz p) ∧ Z p.length = nI (2 ^ e) ∧ (∀ t, t < 8 → U (8 * p.length + t) = r t) ∧ gl_mpr F Z U p
def gl_mp (I : Nat → Nat → Int32) (p : gl_Pl) : Prop := I 0 49 = nI p.length ∧ gl_mpr (I 42) (I 43) (I 44) p
theorem gl_mpr_same {F Z U F' Z' U' : Nat → Int32} : ∀ {p : gl_Pl}, gl_mpr F Z U p → (∀ k, k < p.length → F' k = F k ∧ Z' k = Z k) → (∀ k, k < 8 * p.length → U' k = U k) → gl_mpr F' Z' U' p
  | [], _, _, _ => trivial
  | (e, r) :: p, h, h1, h2 => by
    simp only [List.length_cons] at h1 h2
    refine ⟨by rw [(h1 _ (by omega)).1]; exact h.1, by rw [(h1 _ (by omega)).2]; exact h.2.1, fun t ht => by rw [h2 _ (by omega)]; exact h.2.2.1 t ht, gl_mpr_same h.2.2.2 (fun k hk => h1 k (by omega)) (fun k hk => h2 k (by omega))⟩
theorem gl_mp_fq {X Y : List Nat} {I J : Nat → Nat → Int32} {p : gl_Pl} (h : gl_mp I p) (hf : gl_fq X Y I J) (hX : 42 ∉ X ∧ 43 ∉ X ∧ 44 ∉ X) (hY : 49 ∉ Y) : gl_mp J p := by
  unfold gl_mp
  rw [hf.2 49 hY, hf.1 42 (by decide) hX.1, hf.1 43 (by decide) hX.2.1, hf.1 44 (by decide) hX.2.2]
  exact h
theorem gl_mp_step {I : Nat → Nat → Int32} {w m : Nat → Int32} {e e0 : Nat} {r r0 : Nat → Int32} {p : gl_Pl} (h : gl_mp I ((e, r) :: (e0, r0) :: p)) :
    gl_mp (gl_u2 (gl_u2 (va_up (gl_wm I w m) 44 (va_cpy (gl_join (fun t => I 44 (8 * p.length + t)) (fun t => I 44 (8 * (p.length + 1) + t))) (I 44) 0 (8 * p.length) 8)) 43 p.length (nI (2 ^ e0 * 2))) 0 49 (nI (p.length + 1))) ((e0 + 1, gl_t8 (gl_join r0 r)) :: p) := by
  obtain ⟨-, -, -, hr, hF, -, hr0, hp⟩ := h
  simp only [List.length_cons] at hr
  have e4 : gl_join (fun t => I 44 (8 * p.length + t)) (fun t => I 44 (8 * (p.length + 1) + t)) = gl_join r0 r := gl_join_congr (fun t ht => hr0 t ht) (fun t ht => hr t ht)
  rw [e4]
  have n2 : ∀ c, c ≠ 0 → gl_u2 (gl_u2 (va_up (gl_wm I w m) 44 (va_cpy (gl_join r0 r) (I 44) 0 (8 * p.length) 8)) 43 p.length (nI (2 ^ e0 * 2))) 0 49 (nI (p.length + 1)) c = gl_u2 (va_up (gl_wm I w m) 44 (va_cpy (gl_join r0 r) (I 44) 0 (8 * p.length) 8)) 43 p.length (nI (2 ^ e0 * 2)) c := fun c hc => gl_u2_ne hc
  refine ⟨by rw [gl_u2_eq, gl_up_eq]; rfl, ?_⟩
  rw [n2 42 (by decide), n2 43 (by decide), n2 44 (by decide), gl_u2_ne (show (42 : Nat) ≠ 43 by decide), gl_u2_ne (show (44 : Nat) ≠ 43 by decide), gl_u2_eq, gl_up_ne (show (42 : Nat) ≠ 44 by decide), gl_up_ne (show (43 : Nat) ≠ 44 by decide), gl_up_eq, gl_wm_o (by decide) (by decide), gl_wm_o (by decide) (by decide)]
  refine ⟨hF, by rw [gl_up_eq, Nat.pow_succ], fun t ht => ?_, gl_mpr_same hp (fun k hk => ⟨rfl, gl_up_ne (by omega)⟩) (fun k hk => pk_cpy_out (by omega))⟩
  rw [pk_cpy_in (by omega) (by omega), gl_t8_lt ht]
  congr 1; omega
theorem gl_mp_push {I : Nat → Nat → Int32} {e : Nat} {r : Nat → Int32} {p : gl_Pl} (h : gl_mp I p) :
    gl_mp (gl_u2 (va_up (gl_u2 (gl_u2 I 42 p.length (nI (gl_sz p))) 43 p.length (nI (2 ^ e))) 44 (va_cpy r (I 44) 0 (8 * p.length) 8)) 0 49 (nI (p.length + 1))) ((e, gl_t8 r) :: p) := by
  refine ⟨by rw [gl_u2_eq, gl_up_eq]; rfl, ?_⟩
  rw [gl_u2_ne (show (42 : Nat) ≠ 0 by decide), gl_u2_ne (show (43 : Nat) ≠ 0 by decide), gl_u2_ne (show (44 : Nat) ≠ 0 by decide), gl_up_eq, gl_up_ne (show (42 : Nat) ≠ 44 by decide), gl_up_ne (show (43 : Nat) ≠ 44 by decide), gl_u2_eq, gl_u2_ne (show (42 : Nat) ≠ 43 by decide), gl_u2_eq, gl_u2_ne (show (43 : Nat) ≠ 42 by decide)]
  refine ⟨gl_up_eq, gl_up_eq, fun t ht => ?_, gl_mpr_same h.2 (fun k hk => ⟨gl_up_ne (by omega), gl_up_ne (by omega)⟩) (fun k hk => pk_cpy_out (by omega))⟩
  rw [pk_cpy_in (by omega) (by omega), gl_t8_lt ht]
  congr 1; omega
