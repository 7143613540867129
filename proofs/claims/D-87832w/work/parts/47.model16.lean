/-! MODULE Model, ways down a tree: follow (by gen47.py) -/
set_option maxRecDepth 100000
/-- down a way: the other sides' trees, and who is left -/
def gl_dn {α : Type} (lf : α → Nat → Int32) (bt : Nat → α → Bool) (kb : Nat → Bool) : Nat → Nat → List α → List (Nat → Int32) × List α
  | 0, _, l => ([], l)
  | f + 1, d, l => if l.length ≤ 1 then ([], l) else if kb d = true then (gl_tr lf bt f (d + 1) (l.filter fun z => !bt d z) :: (gl_dn lf bt kb f (d + 1) (l.filter fun z => bt d z)).1, (gl_dn lf bt kb f (d + 1) (l.filter fun z => bt d z)).2) else (gl_tr lf bt f (d + 1) (l.filter fun z => bt d z) :: (gl_dn lf bt kb f (d + 1) (l.filter fun z => !bt d z)).1, (gl_dn lf bt kb f (d + 1) (l.filter fun z => !bt d z)).2)
theorem gl_dn_1 {α : Type} {lf : α → Nat → Int32} {bt : Nat → α → Bool} {kb : Nat → Bool} {f d : Nat} {l : List α} (h : l.length ≤ 1) : gl_dn lf bt kb f d l = ([], l) := by
  cases f with
  | zero => rfl
  | succ f => exact if_pos h
theorem gl_dn_r {α : Type} {lf : α → Nat → Int32} {bt : Nat → α → Bool} {kb : Nat → Bool} {f d : Nat} {l : List α} (h : 2 ≤ l.length) (hk : kb d = true) : gl_dn lf bt kb (f + 1) d l = (gl_tr lf bt f (d + 1) (l.filter fun z => !bt d z) :: (gl_dn lf bt kb f (d + 1) (l.filter fun z => bt d z)).1, (gl_dn lf bt kb f (d + 1) (l.filter fun z => bt d z)).2) := by
  rw [gl_dn, if_neg (by omega), if_pos hk]
theorem gl_dn_l {α : Type} {lf : α → Nat → Int32} {bt : Nat → α → Bool} {kb : Nat → Bool} {f d : Nat} {l : List α} (h : 2 ≤ l.length) (hk : kb d = false) : gl_dn lf bt kb (f + 1) d l = (gl_tr lf bt f (d + 1) (l.filter fun z => bt d z) :: (gl_dn lf bt kb f (d + 1) (l.filter fun z => !bt d z)).1, (gl_dn lf bt kb f (d + 1) (l.filter fun z => !bt d z)).2) := by
  rw [gl_dn, if_neg (by omega), if_neg (by rw [hk]; decide)]
theorem gl_dn_len {α : Type} {lf : α → Nat → Int32} {bt : Nat → α → Bool} {kb : Nat → Bool} : ∀ (f d : Nat) (l : List α), (gl_dn lf bt kb f d l).1.length ≤ f
  | 0, _, _ => Nat.le_refl 0
  | f + 1, d, l => by
    rcases Nat.lt_or_ge l.length 2 with h | h
    · rw [gl_dn_1 (by omega)]; exact Nat.zero_le _
    · cases hk : kb d with
      | true => rw [gl_dn_r h hk]; exact Nat.succ_le_succ (gl_dn_len f (d + 1) _)
      | false => rw [gl_dn_l h hk]; exact Nat.succ_le_succ (gl_dn_len f (d + 1) _)
theorem gl_dn_map {α β : Type} {lf : α → Nat → Int32} {bt : Nat → α → Bool} {kb : Nat → Bool} (g : β → α) : ∀ (f d : Nat) (l : List β), gl_dn lf bt kb f d (l.map g) = ((gl_dn (fun x => lf (g x)) (fun d x => bt d (g x)) kb f d l).1, (gl_dn (fun x => lf (g x)) (fun d x => bt d (g x)) kb f d l).2.map g)
  | 0, d, l => rfl
  | f + 1, d, l => by
    rcases Nat.lt_or_ge l.length 2 with h | h
    · rw [gl_dn_1 (by rw [List.length_map]; omega), gl_dn_1 (by omega)]
    · cases hk : kb d with
      | true =>
        rw [gl_dn_r (by rw [List.length_map]; exact h) hk, gl_dn_r h hk, List.filter_map, List.filter_map, gl_tr_map g f, gl_dn_map g f]
        rfl
      | false =>
        rw [gl_dn_l (by rw [List.length_map]; exact h) hk, gl_dn_l h hk, List.filter_map, List.filter_map, gl_tr_map g f, gl_dn_map g f]
        rfl
theorem gl_dn_congr {α : Type} {lf lf' : α → Nat → Int32} {bt bt' : Nat → α → Bool} {kb : Nat → Bool} : ∀ (f d : Nat) (l : List α), d + f ≤ 256 → (∀ x ∈ l, lf x = lf' x) → (∀ x ∈ l, ∀ d, d < 256 → bt d x = bt' d x) → gl_dn lf bt kb f d l = gl_dn lf' bt' kb f d l
  | 0, d, l, _, _, _ => rfl
  | f + 1, d, l, hd, h1, h2 => by
    have e1 : l.filter (fun z => !bt d z) = l.filter (fun z => !bt' d z) := List.filter_congr fun z hz => by rw [h2 z hz d (by omega)]
    have e2 : l.filter (fun z => bt d z) = l.filter (fun z => bt' d z) := List.filter_congr fun z hz => h2 z hz d (by omega)
    rcases Nat.lt_or_ge l.length 2 with h | h
    · rw [gl_dn_1 (by omega), gl_dn_1 (by omega)]
    · have t1 := gl_tr_congr (lf := lf) (lf' := lf') (bt := bt) (bt' := bt') f (d + 1) (l.filter fun z => !bt' d z) (by omega) (fun z hz => h1 z (List.mem_filter.mp hz).1) (fun z hz => h2 z (List.mem_filter.mp hz).1)
      have t2 := gl_tr_congr (lf := lf) (lf' := lf') (bt := bt) (bt' := bt') f (d + 1) (l.filter fun z => bt' d z) (by omega) (fun z hz => h1 z (List.mem_filter.mp hz).1) (fun z hz => h2 z (List.mem_filter.mp hz).1)
      have u1 := gl_dn_congr (lf := lf) (lf' := lf') (bt := bt) (bt' := bt') (kb := kb) f (d + 1) (l.filter fun z => !bt' d z) (by omega) (fun z hz => h1 z (List.mem_filter.mp hz).1) (fun z hz => h2 z (List.mem_filter.mp hz).1)
      have u2 := gl_dn_congr (lf := lf) (lf' := lf') (bt := bt) (bt' := bt') (kb := kb) f (d + 1) (l.filter fun z => bt' d z) (by omega) (fun z hz => h1 z (List.mem_filter.mp hz).1) (fun z hz => h2 z (List.mem_filter.mp hz).1)
      cases hk : kb d with
      | true => rw [gl_dn_r h hk, gl_dn_r h hk, e1, e2, t1, u2]
      | false => rw [gl_dn_l h hk, gl_dn_l h hk, e1, e2, t2, u1]
/-- whose number is left -/
def gl_al (l : List Nat) : Int32 := match l with
  | [] => -1
  | x :: _ => nI x
set_option maxHeartbeats 4000000 in
set_option maxRecDepth 100000 in
theorem ct_X9_follow {l : Launch} {δ : gl_Del} {I : Nat → Nat → Int32} {L : Nat → Nat → Int64} {B : Nat → Nat → Bool} {s : Nat} {ky : Int32} {mp : gl_Mp} (h : Nat) (hh : 264 ≤ h) (hs : s < 16) (hM : gl_MP I mp) (hnd : gl_nd mp) (hml : mp.length ≤ 400) (h90 : I 9 (8 * s + 1) = nI 0) : gl_Ct l δ yX9_follow (ws_ yX9_follow cX9_follow 7 none) (gl_rm h 0 0) 0 0 [.ref 0, .int (nI s), .int ky] (gl_mL, I, L, B, gl_mR) (gl_Qv fun S => ∃ I', S = (gl_mL, I', L, B, gl_mR) ∧ gl_fq [9, 12, 39, 40, 50, 51, 52, 54, 55] [62] I I' ∧ I' 9 = va_up (I 9) (8 * s + 1) (nI (gl_dn (fun x => gl_leaf (I 47 x) (I 48 x)) (fun d x => gl_bit (fun t => I 49 (8 * x + t)) d) (fun d => gl_bit (gl_way ky) d) 256 0 (List.range mp.length)).1.length) ∧ I' 12 = gl_wrs (8 * (256 * s)) (gl_dn (fun x => gl_leaf (I 47 x) (I 48 x)) (fun d x => gl_bit (fun t => I 49 (8 * x + t)) d) (fun d => gl_bit (gl_way ky) d) 256 0 (List.range mp.length)).1 0 (I 12) ∧ I' 0 62 = gl_al (gl_dn (fun x => gl_leaf (I 47 x) (I 48 x)) (fun d x => gl_bit (fun t => I 49 (8 * x + t)) d) (fun d => gl_bit (gl_way ky) d) 256 0 (List.range mp.length)).2) := by
  refine gl_of (by decide) (Nat.le_of_ble_eq_true rfl) rfl ?_
  intro κ C hQ hlκ hδκ hnL hini
  change gl_Cx κ RX9 _ _ _ at C
  obtain ⟨tr, htr0⟩ : ∃ tr, tr = (gl_dn (fun x => gl_leaf (I 47 x) (I 48 x)) (fun d x => gl_bit (fun t => I 49 (8 * x + t)) d) (fun d => gl_bit (gl_way ky) d) 256 0 (List.range mp.length)).1 := ⟨_, rfl⟩
  obtain ⟨tl, htl0⟩ : ∃ tl, tl = (gl_dn (fun x => gl_leaf (I 47 x) (I 48 x)) (fun d x => gl_bit (fun t => I 49 (8 * x + t)) d) (fun d => gl_bit (gl_way ky) d) 256 0 (List.range mp.length)).2 := ⟨_, rfl⟩
  rw [← htr0, ← htl0] at hQ
  have small : ∀ (f d : Nat) (l : List Nat) (a b : Nat) (I1 : Nat → Nat → Int32) (rs : List (Nat → Int32)), l.length ≤ 1 → d + f = 256 → gl_tok (fun d x => gl_bit (fun t => I 49 (8 * x + t)) d) f d l → gl_ra (I1 50) a l → a + l.length = b → b ≤ 400 → (∀ x ∈ l, x < 400) → gl_fq [9, 12, 39, 40, 50, 51, 52, 54, 55] [62] I I1 → (∀ t, t < 8 → I1 55 t = gl_way ky t) → I1 9 = va_up (I 9) (8 * s + 1) (nI d) → I1 12 = gl_wrs (8 * (256 * s)) rs 0 (I 12) → rs.length = d → rs ++ (gl_dn (fun x => gl_leaf (I 47 x) (I 48 x)) (fun d x => gl_bit (fun t => I 49 (8 * x + t)) d) (fun d => gl_bit (gl_way ky) d) f d l).1 = tr → (gl_dn (fun x => gl_leaf (I 47 x) (I 48 x)) (fun d x => gl_bit (fun t => I 49 (8 * x + t)) d) (fun d => gl_bit (gl_way ky) d) f d l).2 = tl → ∀ x6 : Option Value, gl_J κ 0 0 (gl_mL, I1, L, B, gl_mR) 25 [some (.ref 0), some (.int (nI s)), some (.int ky), some (.int (nI a)), some (.int (nI b)), some (.int (nI d)), x6] [] := by
    intro f d l a b I1 rs hl1 hd hok hra hab hb hx hf h55 h9 h12 hrs htr htl x6
    rw [gl_dn_1 hl1] at htr htl
    match l, hra, hab, hl1, htl with
    | [], hra, hab, hl1, htl =>
      have hab : a + 0 = b := hab
      subst hab
      change gl_J κ 0 0 _ 25 [_, _, _, some (.int (nI a)), some (.int (nI (a + 0))), _, _] _
      refine j_iload C dX9_follow_25 rfl 27 rfl ?_
      refine j_iload_n C dX9_follow_27 rfl 28 rfl ?_
      refine n_isub C dX9_follow_28 (by omega) 29 rfl ?_
      rw [show a + 0 - a = 0 by omega]
      refine j_iconst (v := nI 1) C dX9_follow_29 (by decide) 30 rfl ?_
      refine n_icmp_le C 116 33 dX9_follow_30 (by decide) rfl (by omega) (by omega) (fun c_30 => ?_) (fun c_30 => ?_)
      · refine j_aload_n C dX9_follow_116 rfl 117 rfl ?_
        refine j_iload_n C dX9_follow_117 rfl 118 rfl ?_
        refine j_iload C dX9_follow_118 rfl 120 rfl ?_
        refine n_icmp_ne C 127 123 dX9_follow_120 (by decide) rfl (by omega) (by omega) (fun c_120 => ?_) (fun c_120 => ?_)
        · exact absurd rfl c_120
        · refine j_iconst (v := -1) C dX9_follow_123 (by decide) 124 rfl ?_
          refine j_goto (tgt := 133) C dX9_follow_124 (by decide) ?_
          refine pf_X9_303 C rfl dX9_follow_133 136 rfl ?_
          exact j_ret C hQ ⟨_, rfl, hf.sc (by decide), by rw [gl_u2_ne (show (9 : Nat) ≠ 0 by decide), h9, ← htr, List.append_nil, hrs], by rw [gl_u2_ne (show (12 : Nat) ≠ 0 by decide), h12, ← htr, List.append_nil], by rw [gl_u2_eq, gl_up_eq, ← htl]; rfl⟩ (by omega) (by omega) dX9_follow_136
      · exact absurd c_30 (by omega)
    | [x], hra, hab, hl1, htl =>
      have hab : a + 1 = b := hab
      subst hab
      refine j_iload C dX9_follow_25 rfl 27 rfl ?_
      refine j_iload_n C dX9_follow_27 rfl 28 rfl ?_
      refine n_isub C dX9_follow_28 (by omega) 29 rfl ?_
      rw [show a + 1 - a = 1 by omega]
      refine j_iconst (v := nI 1) C dX9_follow_29 (by decide) 30 rfl ?_
      refine n_icmp_le C 116 33 dX9_follow_30 (by decide) rfl (by omega) (by omega) (fun c_30 => ?_) (fun c_30 => ?_)
      · refine j_aload_n C dX9_follow_116 rfl 117 rfl ?_
        refine j_iload_n C dX9_follow_117 rfl 118 rfl ?_
        refine j_iload C dX9_follow_118 rfl 120 rfl ?_
        refine n_icmp_ne C 127 123 dX9_follow_120 (by decide) rfl (by omega) (by omega) (fun c_120 => ?_) (fun c_120 => ?_)
        · refine j_aload_n C dX9_follow_127 rfl 128 rfl ?_
          refine gf_X9_160 C rfl rfl dX9_follow_128 131 rfl ?_
          refine j_iload_n C dX9_follow_131 rfl 132 rfl ?_
          refine j_iald C rfl (by omega) (by decide) dX9_follow_132 133 rfl ?_
          rw [hra.1]
          refine pf_X9_303 C rfl dX9_follow_133 136 rfl ?_
          exact j_ret C hQ ⟨_, rfl, hf.sc (by decide), by rw [gl_u2_ne (show (9 : Nat) ≠ 0 by decide), h9, ← htr, List.append_nil, hrs], by rw [gl_u2_ne (show (12 : Nat) ≠ 0 by decide), h12, ← htr, List.append_nil], by rw [gl_u2_eq, gl_up_eq, ← htl]; rfl⟩ (by omega) (by omega) dX9_follow_136
        · exact absurd c_120 (by omega)
      · exact absurd c_30 (by omega)
    | x :: y :: l, _, _, hl1, _ => exact absurd hl1 (by simp)
  have loop : ∀ (f d : Nat) (l : List Nat) (a b : Nat) (I1 : Nat → Nat → Int32) (rs : List (Nat → Int32)), d + f = 256 → gl_tok (fun d x => gl_bit (fun t => I 49 (8 * x + t)) d) f d l → gl_ra (I1 50) a l → a + l.length = b → b ≤ 400 → (∀ x ∈ l, x < 400) → gl_fq [9, 12, 39, 40, 50, 51, 52, 54, 55] [62] I I1 → (∀ t, t < 8 → I1 55 t = gl_way ky t) → I1 9 = va_up (I 9) (8 * s + 1) (nI d) → I1 12 = gl_wrs (8 * (256 * s)) rs 0 (I 12) → rs.length = d → rs ++ (gl_dn (fun x => gl_leaf (I 47 x) (I 48 x)) (fun d x => gl_bit (fun t => I 49 (8 * x + t)) d) (fun d => gl_bit (gl_way ky) d) f d l).1 = tr → (gl_dn (fun x => gl_leaf (I 47 x) (I 48 x)) (fun d x => gl_bit (fun t => I 49 (8 * x + t)) d) (fun d => gl_bit (gl_way ky) d) f d l).2 = tl → ∀ x6 : Option Value, gl_J κ 0 0 (gl_mL, I1, L, B, gl_mR) 25 [some (.ref 0), some (.int (nI s)), some (.int ky), some (.int (nI a)), some (.int (nI b)), some (.int (nI d)), x6] [] := by
    intro f
    induction f with
    | zero =>
      intro d l a b I1 rs hd hok hra hab hb hx hf h55 h9 h12 hrs htr htl x6
      exact small _ d l a b I1 rs hok hd hok hra hab hb hx hf h55 h9 h12 hrs htr htl x6
    | succ f ih0 =>
      intro d l a b I1 rs hd hok hra hab hb hx hf h55 h9 h12 hrs htr htl x6
      rcases hok with hok1 | hok2
      · exact small _ d l a b I1 rs hok1 hd (Or.inl hok1) hra hab hb hx hf h55 h9 h12 hrs htr htl x6
      rcases Nat.lt_or_ge l.length 2 with hl1 | hl2
      · exact small _ d l a b I1 rs (by omega) hd (Or.inr hok2) hra hab hb hx hf h55 h9 h12 hrs htr htl x6
      · have k49 : I1 49 = I 49 := hf.1 49 (by decide) (by decide)
        refine j_iload C dX9_follow_25 rfl 27 rfl ?_
        refine j_iload_n C dX9_follow_27 rfl 28 rfl ?_
        refine n_isub C dX9_follow_28 (by omega) 29 rfl ?_
        refine j_iconst (v := nI 1) C dX9_follow_29 (by decide) 30 rfl ?_
        refine n_icmp_le C 116 33 dX9_follow_30 (by decide) rfl (by omega) (by omega) (fun c_30 => ?_) (fun c_30 => ?_)
        · exact absurd c_30 (by omega)
        · refine j_aload_n C dX9_follow_33 rfl 34 rfl ?_
          refine j_iload_n C dX9_follow_34 rfl 35 rfl ?_
          refine j_iload C dX9_follow_35 rfl 37 rfl ?_
          refine j_iload C dX9_follow_37 rfl 39 rfl ?_
          refine j_ci C (cs_X9_245 C (ct_X9_part (I := I1) (l0 := l) (h - 1) (by omega) hra hab hb hx (by omega)) rfl rfl (by omega) (by omega) (by omega) rfl (Nat.le_of_ble_eq_true rfl) dX9_follow_39) 42 rfl ?_
          rintro _ _ ⟨rfl, I2, rfl, f2, hra2, hout2⟩
          have g47 : I2 47 = I 47 := (f2.1 47 (by decide) (by decide)).trans (hf.1 47 (by decide) (by decide))
          have g48 : I2 48 = I 48 := (f2.1 48 (by decide) (by decide)).trans (hf.1 48 (by decide) (by decide))
          have g49 : I2 49 = I 49 := (f2.1 49 (by decide) (by decide)).trans (hf.1 49 (by decide) (by decide))
          rw [k49] at hra2 ⊢
          have r1 := (gl_ra_app.mp hra2).1
          have r2 := (gl_ra_app.mp hra2).2
          have hlen : (l.filter fun x => !gl_bit (fun t => I 49 (8 * x + t)) d).length + (l.filter fun x => gl_bit (fun t => I 49 (8 * x + t)) d).length = l.length := by rw [Nat.add_comm]; exact gl_flen _ l
          refine j_istore C dX9_follow_42 (Nat.le_of_ble_eq_true rfl) (by rw [hnL]; decide) rfl 44 rfl ?_
          refine j_aload_n C dX9_follow_44 rfl 45 rfl ?_
          refine gf_X9_175 C rfl rfl dX9_follow_45 48 rfl ?_
          refine j_iconst (v := nI 0) C dX9_follow_48 (by decide) 49 rfl ?_
          refine j_iload C dX9_follow_49 rfl 51 rfl ?_
          refine j_ci C (cs_X9_237 C (ct_X9_isOne (Λ := gl_mL) (R := gl_mR) (I := I2) (x := 55) (nx := 8) (fr := 0) (h - 1) (by omega) rfl (by decide) (by decide) (by omega)) rfl (by omega) (by omega) (by omega) rfl (Nat.le_of_ble_eq_true rfl) dX9_follow_51) 54 rfl ?_
          rintro _ _ ⟨rfl, rfl⟩
          rw [gl_bit_congr (g := gl_way ky) (show d < 256 by omega) (fun t ht => by rw [Nat.zero_add, f2.1 55 (by decide) (by decide)]; exact h55 t ht)]
          refine b_if_eq C 79 57 dX9_follow_54 (by decide) rfl (fun c_54 => ?_) (fun c_54 => ?_)
          · have hbit : (fun d => gl_bit (gl_way ky) d) d = false := c_54
            refine j_aload_n C dX9_follow_79 rfl 80 rfl ?_
            refine j_iload C dX9_follow_80 rfl 82 rfl ?_
            refine j_iload C dX9_follow_82 rfl 84 rfl ?_
            refine j_iload C dX9_follow_84 rfl 86 rfl ?_
            refine j_iconst (v := nI 1) C dX9_follow_86 (by decide) 87 rfl ?_
            refine n_iadd C dX9_follow_87 88 rfl ?_
            refine j_aload_n C dX9_follow_88 rfl 89 rfl ?_
            refine gf_X9_172 C rfl rfl dX9_follow_89 92 rfl ?_
            refine j_iconst (v := nI 0) C dX9_follow_92 (by decide) 93 rfl ?_
            refine j_cv C (cs_X9_249 C (ct_X9_tree f (I := I2) (a := (a + (l.filter fun x => !gl_bit (fun t => I 49 (8 * x + t)) d).length)) (b := b) (d := d + 1) (to := 54) (nt := 8) (at_ := 0) (l := (l.filter fun x => gl_bit (fun t => I 49 (8 * x + t)) d)) (h - 1) (by omega) r2 (by omega) (by omega) (fun x hq => hx x (List.mem_filter.mp hq).1) (by omega) (by rw [g49]; exact hok2.2) rfl (by decide) (by decide) (by decide) (by decide) (by decide) (by decide) (by decide)) rfl rfl (by omega) (by omega) (by omega) rfl (Nat.le_of_ble_eq_true rfl) dX9_follow_93) 96 rfl ?_
            rintro _ ⟨I3, rfl, t3⟩
            rw [g47, g48, g49] at t3
            have e12 : I3 12 = I1 12 := (t3.1 12 (by decide) (by decide) (by decide) (by decide) (by decide) (by decide)).trans (f2.1 12 (by decide) (by decide))
            have e9 : I3 9 = I1 9 := (t3.1 9 (by decide) (by decide) (by decide) (by decide) (by decide) (by decide)).trans (f2.1 9 (by decide) (by decide))
            have e55 : I3 55 = I1 55 := (t3.1 55 (by decide) (by decide) (by decide) (by decide) (by decide) (by decide)).trans (f2.1 55 (by decide) (by decide))
            have q3 : gl_fq [9, 12, 39, 40, 50, 51, 52, 54, 55] [62] I I3 := (hf.tr (f2.mo (by decide) (by decide))).tr ⟨fun c h0 hx => by simp only [List.mem_cons, List.not_mem_nil, or_false, not_or] at hx; exact t3.1 c (by omega) (by omega) (by omega) (by omega) (by omega) (by omega), fun k _ => by rw [t3.1 0 (by decide) (by decide) (by decide) (by decide) (by decide) (by decide)]⟩
            have row3 : ∀ t, t < 8 → I3 54 (0 + t) = _ := fun t ht => by rw [Nat.zero_add, t3.2.2.1 (by decide), gl_cpy_lt ht]
            refine j_iload C dX9_follow_96 rfl 98 rfl ?_
            refine j_istore C dX9_follow_98 (Nat.le_of_ble_eq_true rfl) (by rw [hnL]; decide) rfl 100 rfl ?_
            refine j_aload_n C dX9_follow_100 rfl 101 rfl ?_
            refine j_iload_n C dX9_follow_101 rfl 102 rfl ?_
            refine j_aload_n C dX9_follow_102 rfl 103 rfl ?_
            refine gf_X9_172 C rfl rfl dX9_follow_103 106 rfl ?_
            refine j_iconst (v := nI 0) C dX9_follow_106 (by decide) 107 rfl ?_
            refine j_cv C (cs_X9_288 C (ct_X9_stp (I := I3) (s := s) (m := d) (rw_ := 54) (nr := 8) (q_ := 0) (h - 1) (by omega) hs (by rw [e9, h9, gl_up_eq]) (by omega) rfl (by decide) (by decide) (by decide)) rfl rfl (by omega) (by omega) (by omega) rfl (Nat.le_of_ble_eq_true rfl) dX9_follow_107) 110 rfl ?_
            rintro _ rfl
            refine n_iinc C dX9_follow_110 rfl (by rw [hnL]; decide) rfl 113 rfl ?_
            refine j_goto (tgt := 25) C dX9_follow_113 (by decide) ?_
            refine ih0 (d + 1) (l.filter fun x => !gl_bit (fun t => I 49 (8 * x + t)) d) a (a + (l.filter fun x => !gl_bit (fun t => I 49 (8 * x + t)) d).length) _ (rs ++ [gl_tr (fun x => gl_leaf (I 47 x) (I 48 x)) (fun d x => gl_bit (fun t => I 49 (8 * x + t)) d) f (d + 1) (l.filter fun x => gl_bit (fun t => I 49 (8 * x + t)) d)]) (by omega) hok2.1 ?_ (by omega) (by omega) (fun x hq => hx x (List.mem_filter.mp hq).1) ((q3.up (by decide) (by decide)).u2 (by decide) (by decide)) ?_ ?_ ?_ (by rw [List.length_append, hrs]; rfl) ?_ ?_ _
            · rw [gl_u2_ne (show (50 : Nat) ≠ 9 by decide), gl_up_ne (show (50 : Nat) ≠ 12 by decide)]
              exact gl_ra_same r1 (fun i h1 h2 => t3.2.1 i (by omega))
            · rw [gl_u2_ne (show (55 : Nat) ≠ 9 by decide), gl_up_ne (show (55 : Nat) ≠ 12 by decide), e55]; exact h55
            · rw [gl_u2_eq, gl_up_ne (show (9 : Nat) ≠ 12 by decide), e9, h9, gl_up_up]
            · rw [gl_u2_ne (show (12 : Nat) ≠ 9 by decide), gl_up_eq, gl_cpy_congr row3, e12, h12, gl_wrs_app, Nat.zero_add, hrs, gl_wrs, gl_wrs, show 8 * (256 * s + d) = 8 * (256 * s) + 8 * d by omega]
            · rw [← htr, gl_dn_l hl2 hbit, List.append_assoc]; rfl
            · rw [← htl, gl_dn_l hl2 hbit]
          · have hbit : (fun d => gl_bit (gl_way ky) d) d = true := c_54
            refine j_aload_n C dX9_follow_57 rfl 58 rfl ?_
            refine j_iload_n C dX9_follow_58 rfl 59 rfl ?_
            refine j_iload C dX9_follow_59 rfl 61 rfl ?_
            refine j_iload C dX9_follow_61 rfl 63 rfl ?_
            refine j_iconst (v := nI 1) C dX9_follow_63 (by decide) 64 rfl ?_
            refine n_iadd C dX9_follow_64 65 rfl ?_
            refine j_aload_n C dX9_follow_65 rfl 66 rfl ?_
            refine gf_X9_172 C rfl rfl dX9_follow_66 69 rfl ?_
            refine j_iconst (v := nI 0) C dX9_follow_69 (by decide) 70 rfl ?_
            refine j_cv C (cs_X9_249 C (ct_X9_tree f (I := I2) (a := a) (b := (a + (l.filter fun x => !gl_bit (fun t => I 49 (8 * x + t)) d).length)) (d := d + 1) (to := 54) (nt := 8) (at_ := 0) (l := (l.filter fun x => !gl_bit (fun t => I 49 (8 * x + t)) d)) (h - 1) (by omega) r1 (by omega) (by omega) (fun x hq => hx x (List.mem_filter.mp hq).1) (by omega) (by rw [g49]; exact hok2.1) rfl (by decide) (by decide) (by decide) (by decide) (by decide) (by decide) (by decide)) rfl rfl (by omega) (by omega) (by omega) rfl (Nat.le_of_ble_eq_true rfl) dX9_follow_70) 73 rfl ?_
            rintro _ ⟨I3, rfl, t3⟩
            rw [g47, g48, g49] at t3
            have e12 : I3 12 = I1 12 := (t3.1 12 (by decide) (by decide) (by decide) (by decide) (by decide) (by decide)).trans (f2.1 12 (by decide) (by decide))
            have e9 : I3 9 = I1 9 := (t3.1 9 (by decide) (by decide) (by decide) (by decide) (by decide) (by decide)).trans (f2.1 9 (by decide) (by decide))
            have e55 : I3 55 = I1 55 := (t3.1 55 (by decide) (by decide) (by decide) (by decide) (by decide) (by decide)).trans (f2.1 55 (by decide) (by decide))
            have q3 : gl_fq [9, 12, 39, 40, 50, 51, 52, 54, 55] [62] I I3 := (hf.tr (f2.mo (by decide) (by decide))).tr ⟨fun c h0 hx => by simp only [List.mem_cons, List.not_mem_nil, or_false, not_or] at hx; exact t3.1 c (by omega) (by omega) (by omega) (by omega) (by omega) (by omega), fun k _ => by rw [t3.1 0 (by decide) (by decide) (by decide) (by decide) (by decide) (by decide)]⟩
            have row3 : ∀ t, t < 8 → I3 54 (0 + t) = _ := fun t ht => by rw [Nat.zero_add, t3.2.2.1 (by decide), gl_cpy_lt ht]
            refine j_iload C dX9_follow_73 rfl 75 rfl ?_
            refine j_istore_n C dX9_follow_75 (Nat.le_of_ble_eq_true rfl) (by rw [hnL]; decide) rfl 76 rfl ?_
            refine j_goto (tgt := 100) C dX9_follow_76 (by decide) ?_
            refine j_aload_n C dX9_follow_100 rfl 101 rfl ?_
            refine j_iload_n C dX9_follow_101 rfl 102 rfl ?_
            refine j_aload_n C dX9_follow_102 rfl 103 rfl ?_
            refine gf_X9_172 C rfl rfl dX9_follow_103 106 rfl ?_
            refine j_iconst (v := nI 0) C dX9_follow_106 (by decide) 107 rfl ?_
            refine j_cv C (cs_X9_288 C (ct_X9_stp (I := I3) (s := s) (m := d) (rw_ := 54) (nr := 8) (q_ := 0) (h - 1) (by omega) hs (by rw [e9, h9, gl_up_eq]) (by omega) rfl (by decide) (by decide) (by decide)) rfl rfl (by omega) (by omega) (by omega) rfl (Nat.le_of_ble_eq_true rfl) dX9_follow_107) 110 rfl ?_
            rintro _ rfl
            refine n_iinc C dX9_follow_110 rfl (by rw [hnL]; decide) rfl 113 rfl ?_
            refine j_goto (tgt := 25) C dX9_follow_113 (by decide) ?_
            refine ih0 (d + 1) (l.filter fun x => gl_bit (fun t => I 49 (8 * x + t)) d) (a + (l.filter fun x => !gl_bit (fun t => I 49 (8 * x + t)) d).length) b _ (rs ++ [gl_tr (fun x => gl_leaf (I 47 x) (I 48 x)) (fun d x => gl_bit (fun t => I 49 (8 * x + t)) d) f (d + 1) (l.filter fun x => !gl_bit (fun t => I 49 (8 * x + t)) d)]) (by omega) hok2.2 ?_ (by omega) (by omega) (fun x hq => hx x (List.mem_filter.mp hq).1) ((q3.up (by decide) (by decide)).u2 (by decide) (by decide)) ?_ ?_ ?_ (by rw [List.length_append, hrs]; rfl) ?_ ?_ _
            · rw [gl_u2_ne (show (50 : Nat) ≠ 9 by decide), gl_up_ne (show (50 : Nat) ≠ 12 by decide)]
              exact gl_ra_same r2 (fun i h1 h2 => t3.2.1 i (by omega))
            · rw [gl_u2_ne (show (55 : Nat) ≠ 9 by decide), gl_up_ne (show (55 : Nat) ≠ 12 by decide), e55]; exact h55
            · rw [gl_u2_eq, gl_up_ne (show (9 : Nat) ≠ 12 by decide), e9, h9, gl_up_up]
            · rw [gl_u2_ne (show (12 : Nat) ≠ 9 by decide), gl_up_eq, gl_cpy_congr row3, e12, h12, gl_wrs_app, Nat.zero_add, hrs, gl_wrs, gl_wrs, show 8 * (256 * s + d) = 8 * (256 * s) + 8 * d by omega]
            · rw [← htr, gl_dn_r hl2 hbit, List.append_assoc]; rfl
            · rw [← htl, gl_dn_r hl2 hbit]
  refine j_aload_n C dX9_follow_0 rfl 1 rfl ?_
  refine j_iload_n C dX9_follow_1 rfl 2 rfl ?_
  refine j_cv C (cs_X9_234 C (ct_X9_wayOf (h - 1) (by omega)) rfl rfl (by omega) (by omega) (by omega) rfl (Nat.le_of_ble_eq_true rfl) dX9_follow_2) 5 rfl ?_
  rintro _ ⟨w, rfl⟩
  refine j_aload_n C dX9_follow_5 rfl 6 rfl ?_
  refine j_aload_n C dX9_follow_6 rfl 7 rfl ?_
  refine gf_X9_175 C rfl rfl dX9_follow_7 10 rfl ?_
  refine j_iconst (v := nI 0) C dX9_follow_10 (by decide) 11 rfl ?_
  refine j_cv C (cs_X9_192 C (ct_X9_toRow (to := 55) (nt := 8) (at_ := 0) (h - 1) (by omega) rfl (by decide) (by decide) (by decide)) rfl rfl (by omega) (by omega) (by omega) rfl (Nat.le_of_ble_eq_true rfl) dX9_follow_11) 14 rfl ?_
  rintro _ rfl
  rw [gl_wm_40, gl_wm_o (show (55 : Nat) ≠ 39 by decide) (by decide)]
  refine j_iconst (v := nI 0) C dX9_follow_14 (by decide) 15 rfl ?_
  refine j_istore_n C dX9_follow_15 (Nat.le_of_ble_eq_true rfl) (by rw [hnL]; decide) rfl 16 rfl ?_
  refine j_aload_n C dX9_follow_16 rfl 17 rfl ?_
  refine gf_X9_223 C rfl dX9_follow_17 20 rfl ?_
  rw [gl_up_ne (show (0 : Nat) ≠ 55 by decide), gl_wm_o (by decide) (by decide), hM.1.1]
  refine j_istore C dX9_follow_20 (Nat.le_of_ble_eq_true rfl) (by rw [hnL]; decide) rfl 22 rfl ?_
  refine j_iconst (v := nI 0) C dX9_follow_22 (by decide) 23 rfl ?_
  refine j_istore C dX9_follow_23 (Nat.le_of_ble_eq_true rfl) (by rw [hnL]; decide) rfl 25 rfl ?_
  refine loop 256 0 (List.range mp.length) 0 mp.length _ [] rfl (gl_MP_tok hM hnd) ?_ (by rw [List.length_range]; omega) hml (fun x hx => by have := List.mem_range.mp hx; omega) ((gl_fq.rf.wm (by decide) (by decide)).up (by decide) (by decide)) (fun t ht => by rw [gl_up_eq, gl_cpy_lt ht]) ?_ ?_ rfl (by rw [htr0]; rfl) htl0.symm _
  · rw [gl_up_ne (show (50 : Nat) ≠ 55 by decide), gl_wm_o (by decide) (by decide)]
    exact gl_ra_range (fun i hi => (hM.2 i hi).1)
  · rw [gl_up_ne (show (9 : Nat) ≠ 55 by decide), gl_wm_o (by decide) (by decide), ← h90, gl_up_self]
  · rw [gl_up_ne (show (12 : Nat) ≠ 55 by decide), gl_wm_o (by decide) (by decide)]; rfl
