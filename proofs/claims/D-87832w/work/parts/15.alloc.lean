/-! rows of the frame: new cells, references into arrays, System.arraycopy, checkcast, Math.max, Math.min (by genalloc.py) -/
set_option maxRecDepth 100000
section RWN
variable {κ : gl_Kap} {own : String} {cc : ByteArray} {ret : Option FieldType} {nc ns pc h M Ms index : Nat} {S : gl_Sto} {ls : List (Option Value)} {st : List Value}
variable {Λ : gl_Lay} {I : Nat → Nat → Int32} {L : Nat → Nat → Int64} {B : Nat → Nat → Bool} {R : Nat → Nat → Option Nat} {N : Nat} {sh : Nat → Nat × Nat}
theorem gl_X_new {ad : Nat → Nat} {q : Nat} {S' : gl_Sto} (hX : gl_X κ ad ((N, sh), I, L, B, R)) (hS : S'.1.1 = N + 1) : gl_X κ (va_up ad N q) S' := by
  have h2 : gl_N0 κ ≤ N := hX.2
  refine ⟨fun c hc => ?_, by rw [hS]; omega⟩
  rw [gl_up_ne (by omega)]
  exact hX.1 c hc
theorem gl_asg (vm : Vm) (c : ClassId) : vm.assignable c c = true := by
  unfold Vm.assignable Vm.assignableAux
  rw [beq_self_eq_true, Bool.true_or]
theorem gl_new_same {ad : Nat → Nat} {q : Nat} : ∀ c, c < N → va_up ad N q c = ad c := fun c hc => gl_up_ne (Nat.ne_of_lt hc)
theorem j_newarrI (C : gl_Cx κ own cc (gl_rm h M Ms) ret) {n : Nat} (hb : n < 2 ^ 24) (h1 : nc + 1 ≤ M) (h2 : ns + n ≤ Ms) (d : decode cc pc = .ok (.newarray .int, 2)) (n' : Nat) (hn : pc + 2 = n') (k : gl_J κ (nc + 1) (ns + n) ((N + 1, va_up sh N (0, n)), va_up I N (fun _ => 0), va_up L N (fun _ => 0), va_up B N (fun _ => false), va_up R N (fun _ => none)) n' ls (.ref N :: st)) : gl_J κ nc ns ((N, sh), I, L, B, R) pc ls (.int (nI n) :: st) := by
  subst hn
  intro ad H locs la hW hS hX ho hs hl
  have e : gl_R κ = gl_rm h M Ms := C.ro
  refine va_newa (atype := .int) (N' := n) (a0 := (n, .inl (fun _ => 0))) (ty := .int) C.ex C.bt (C.ts _ q159) rfl C.K hW.1 hW.2.1 hS C.hA (fun cA => rfl) (nI_pos (by omega)) (nI_clamp (by omega)) (by show n * 4 ≤ _; omega) (by rw [show κ.1.2.2.2.1 = _ from e]; exact h1) (by rw [show κ.1.2.2.2.1 = _ from e]; exact h2) d (fun q cA H1 hK1 hP1 hD1 hS1 => ?_)
  have ec : cA = (gl_d κ).2 0 := by
    have a1 : va_RA (gl_s κ) cA .int := (hK1.2 8 (cA, .int) rfl).2
    have a2 : va_RA (gl_s κ) ((gl_d κ).2 0) .int := (C.K.2 0 _ rfl).2
    exact Option.some.inj (Eq.trans (Eq.symm a1) a2)
  subst ec
  have hw := gl_W.push (δ := gl_d κ) (A := gl_A κ) (kk := (0, n)) (Ir := fun _ => 0) (Lr := fun _ => 0) (Br := fun _ => false) hW.2.2 rfl hP1 hD1
  have kk := k (va_up ad N q) H1 locs la hw hS1 (gl_X_new hX rfl) (gl_okl_mono (Nat.le_succ N) ho) (gl_okc (show N < N + 1 by omega) (gl_oks_mono (Nat.le_succ N) (gl_ok1 hs))) (by rw [gl_lp_same gl_new_same 0 ho]; exact hl)
  rw [List.map_cons, gl_sv_same gl_new_same (gl_ok1 hs)] at kk
  have e2 : gl_v (va_up ad N q) (.ref N) = .ref q := congrArg Value.ref gl_up_eq
  rw [e2] at kk
  exact kk
theorem j_newarrZ (C : gl_Cx κ own cc (gl_rm h M Ms) ret) {n : Nat} (hb : n < 2 ^ 24) (h1 : nc + 1 ≤ M) (h2 : ns + n ≤ Ms) (d : decode cc pc = .ok (.newarray .boolean, 2)) (n' : Nat) (hn : pc + 2 = n') (k : gl_J κ (nc + 1) (ns + n) ((N + 1, va_up sh N (1, n)), va_up I N (fun _ => 0), va_up L N (fun _ => 0), va_up B N (fun _ => false), va_up R N (fun _ => none)) n' ls (.ref N :: st)) : gl_J κ nc ns ((N, sh), I, L, B, R) pc ls (.int (nI n) :: st) := by
  subst hn
  intro ad H locs la hW hS hX ho hs hl
  have e : gl_R κ = gl_rm h M Ms := C.ro
  refine va_newa (atype := .boolean) (N' := n) (a0 := (n, .inl (fun _ => 0))) (ty := .boolean) C.ex C.bt (C.ts _ q161) rfl C.K hW.1 hW.2.1 hS C.hA (fun cA => rfl) (nI_pos (by omega)) (nI_clamp (by omega)) (by show n * 1 ≤ _; omega) (by rw [show κ.1.2.2.2.1 = _ from e]; exact h1) (by rw [show κ.1.2.2.2.1 = _ from e]; exact h2) d (fun q cA H1 hK1 hP1 hD1 hS1 => ?_)
  have ec : cA = (gl_d κ).2 1 := by
    have a1 : va_RA (gl_s κ) cA .boolean := (hK1.2 8 (cA, .boolean) rfl).2
    have a2 : va_RA (gl_s κ) ((gl_d κ).2 1) .boolean := (C.K.2 1 _ rfl).2
    exact Option.some.inj (Eq.trans (Eq.symm a1) a2)
  subst ec
  have hw := gl_W.push (δ := gl_d κ) (A := gl_A κ) (kk := (1, n)) (Ir := fun _ => 0) (Lr := fun _ => 0) (Br := fun _ => false) hW.2.2 rfl hP1 hD1
  have kk := k (va_up ad N q) H1 locs la hw hS1 (gl_X_new hX rfl) (gl_okl_mono (Nat.le_succ N) ho) (gl_okc (show N < N + 1 by omega) (gl_oks_mono (Nat.le_succ N) (gl_ok1 hs))) (by rw [gl_lp_same gl_new_same 0 ho]; exact hl)
  rw [List.map_cons, gl_sv_same gl_new_same (gl_ok1 hs)] at kk
  have e2 : gl_v (va_up ad N q) (.ref N) = .ref q := congrArg Value.ref gl_up_eq
  rw [e2] at kk
  exact kk
theorem j_newarrJ (C : gl_Cx κ own cc (gl_rm h M Ms) ret) {n : Nat} (hb : n < 2 ^ 24) (h1 : nc + 1 ≤ M) (h2 : ns + n ≤ Ms) (d : decode cc pc = .ok (.newarray .long, 2)) (n' : Nat) (hn : pc + 2 = n') (k : gl_J κ (nc + 1) (ns + n) ((N + 1, va_up sh N (2, n)), va_up I N (fun _ => 0), va_up L N (fun _ => 0), va_up B N (fun _ => false), va_up R N (fun _ => none)) n' ls (.ref N :: st)) : gl_J κ nc ns ((N, sh), I, L, B, R) pc ls (.int (nI n) :: st) := by
  subst hn
  intro ad H locs la hW hS hX ho hs hl
  have e : gl_R κ = gl_rm h M Ms := C.ro
  refine va_newa (atype := .long) (N' := n) (a0 := (n, .inr (.inl (fun _ => 0)))) (ty := .long) C.ex C.bt (C.ts _ q160) rfl C.K hW.1 hW.2.1 hS C.hA (fun cA => rfl) (nI_pos (by omega)) (nI_clamp (by omega)) (by show n * 8 ≤ _; omega) (by rw [show κ.1.2.2.2.1 = _ from e]; exact h1) (by rw [show κ.1.2.2.2.1 = _ from e]; exact h2) d (fun q cA H1 hK1 hP1 hD1 hS1 => ?_)
  have ec : cA = (gl_d κ).2 2 := by
    have a1 : va_RA (gl_s κ) cA .long := (hK1.2 8 (cA, .long) rfl).2
    have a2 : va_RA (gl_s κ) ((gl_d κ).2 2) .long := (C.K.2 2 _ rfl).2
    exact Option.some.inj (Eq.trans (Eq.symm a1) a2)
  subst ec
  have hw := gl_W.push (δ := gl_d κ) (A := gl_A κ) (kk := (2, n)) (Ir := fun _ => 0) (Lr := fun _ => 0) (Br := fun _ => false) hW.2.2 rfl hP1 hD1
  have kk := k (va_up ad N q) H1 locs la hw hS1 (gl_X_new hX rfl) (gl_okl_mono (Nat.le_succ N) ho) (gl_okc (show N < N + 1 by omega) (gl_oks_mono (Nat.le_succ N) (gl_ok1 hs))) (by rw [gl_lp_same gl_new_same 0 ho]; exact hl)
  rw [List.map_cons, gl_sv_same gl_new_same (gl_ok1 hs)] at kk
  have e2 : gl_v (va_up ad N q) (.ref N) = .ref q := congrArg Value.ref gl_up_eq
  rw [e2] at kk
  exact kk
theorem j_newarrR (C : gl_Cx κ own cc (gl_rm h M Ms) ret) {n t : Nat} {Cn : String} (ht : 3 ≤ t ∧ t ≤ 6) (hty : ∀ dT : Nat → ClassId, (gl_tys dT)[t]? = some (dT t, .object Cn)) (hao : va_AO Cn (gl_s κ)) (q : Cond.classLink own index Cn ∈ lw_all) (hb : n < 2 ^ 24) (h1 : nc + 1 ≤ M) (h2 : ns + n ≤ Ms) (d : decode cc pc = .ok (.anewarray index, 3)) (n' : Nat) (hn : pc + 3 = n') (k : gl_J κ (nc + 1) (ns + n) ((N + 1, va_up sh N (t, n)), va_up I N (fun _ => 0), va_up L N (fun _ => 0), va_up B N (fun _ => false), va_up R N (fun _ => none)) n' ls (.ref N :: st)) : gl_J κ nc ns ((N, sh), I, L, B, R) pc ls (.int (nI n) :: st) := by
  subst hn
  intro ad H locs la hW hS hX ho hs hl
  have e : gl_R κ = gl_rm h M Ms := C.ro
  refine va_newq (N' := n) C.ex C.bt C.ow (C.ts _ q) hao C.K hW.1 hW.2.1 hS C.hA (nI_pos (by omega)) (nI_clamp (by omega)) (by omega) (by rw [show κ.1.2.2.2.1 = _ from e]; exact h1) (by rw [show κ.1.2.2.2.1 = _ from e]; exact h2) d (fun q cA H1 hK1 hP1 hD1 hS1 => ?_)
  have ec : cA = (gl_d κ).2 t := by
    obtain ⟨kA, comp, -, -, -, a1⟩ : va_RA (gl_s κ) cA (.object Cn) := (hK1.2 8 (cA, .object Cn) rfl).2
    obtain ⟨kA2, comp2, -, -, -, a2⟩ : va_RA (gl_s κ) ((gl_d κ).2 t) (.object Cn) := (C.K.2 t _ (hty _)).2
    exact Option.some.inj (Eq.trans (Eq.symm a1) a2)
  subst ec
  have hw := gl_W.push (δ := gl_d κ) (A := gl_A κ) (q := q) (e := .inl ((gl_d κ).2 t, n, .inr (.inr (.inr (.inr (fun _ => none)))))) (H1 := H1) (kk := (t, n)) (Ir := fun _ => 0) (Lr := fun _ => 0) (Br := fun _ => false) hW.2.2 (by match t, ht with | 3, _ => rfl | 4, _ => rfl | 5, _ => rfl | 6, _ => rfl) hP1 hD1
  have kk := k (va_up ad N q) H1 locs la hw hS1 (gl_X_new hX rfl) (gl_okl_mono (Nat.le_succ N) ho) (gl_okc (show N < N + 1 by omega) (gl_oks_mono (Nat.le_succ N) (gl_ok1 hs))) (by rw [gl_lp_same gl_new_same 0 ho]; exact hl)
  rw [List.map_cons, gl_sv_same gl_new_same (gl_ok1 hs)] at kk
  have e2 : gl_v (va_up ad N q) (.ref N) = .ref q := congrArg Value.ref gl_up_eq
  rw [e2] at kk
  exact kk
theorem j_newarrA (C : gl_Cx κ own cc (gl_rm h M Ms) ret) {n : Nat} (q : Cond.classLink own index (FieldType.array .int).toString ∈ lw_all) (hb : n < 2 ^ 24) (h1 : nc + 1 ≤ M) (h2 : ns + n ≤ Ms) (d : decode cc pc = .ok (.anewarray index, 3)) (n' : Nat) (hn : pc + 3 = n') (k : gl_J κ (nc + 1) (ns + n) ((N + 1, va_up sh N (7, n)), va_up I N (fun _ => 0), va_up L N (fun _ => 0), va_up B N (fun _ => false), va_up R N (fun _ => none)) n' ls (.ref N :: st)) : gl_J κ nc ns ((N, sh), I, L, B, R) pc ls (.int (nI n) :: st) := by
  subst hn
  intro ad H locs la hW hS hX ho hs hl
  have e : gl_R κ = gl_rm h M Ms := C.ro
  have hao : (Cond.arrayOver (.array .int)).before (gl_a κ) (gl_s κ) = true := C.ev.2.1.2.2.2.2.2
  have ecl : (nI n).toNatClampNeg = n := nI_clamp (by omega)
  refine W.anewA C.ex C.bt C.ow (C.ts _ q) hao rfl d rfl (nI_pos (by omega)) (by rw [ecl]; omega) (by rw [show κ.1.2.2.2.1 = _ from e]; exact h1) (by rw [show κ.1.2.2.2.1 = _ from e, ecl]; exact h2) fun cA kA comp f1 f2 f3 f4 => ?_
  have ec : cA = (gl_d κ).2 7 := by
    have a2 : va_RA (gl_s κ) ((gl_d κ).2 7) (.array .int) := (C.K.2 7 _ rfl).2
    exact Option.some.inj (Eq.trans (Eq.symm f1) a2)
  subst ec
  rw [ecl]
  generalize hH1 : H.push ({ cls := (gl_d κ).2 7, slots := Array.replicate n .null, vm := .none } : Cell) = H1
  have z1 : H1.size = H.size + 1 := by rw [← hH1, Array.size_push]
  have e1 : H1[H.size]? = some (arrV ((gl_d κ).2 7) n (fun _ => .null)) := by rw [← hH1, Array.getElem?_push_size, ← arrV_new]
  have o1 : ∀ q : Nat, q < H.size → H1[q]? = H[q]? := fun q hq => by rw [← hH1, Array.getElem?_push, if_neg (Nat.ne_of_lt hq)]
  have hk : ∀ (k : Nat) (x : Nat × va_E), (gl_stl (gl_d κ) ad ((N, sh), I, L, B, R))[k]? = some x → H1[x.1]? = H[x.1]? := fun k x hx => o1 x.1 ((hW.1 k x hx).lt)
  have hP1 : va_P (gl_d κ).1 vwCl (gl_stl (gl_d κ) ad ((N, sh), I, L, B, R) ++ [(H.size, .inl ((gl_d κ).2 7, n, .inr (.inr (.inr (.inr (fun _ => none))))))]) H1 := (hW.1.kept hk).app (fun k x hx => by
    have hz : k < 1 := (List.getElem?_eq_some_iff.mp hx).1
    rw [show k = 0 by omega] at hx
    cases hx
    show H1[H.size]? = some (vp_cell _ _)
    rw [vp_cell_q]
    exact e1)
  have hD1 := hW.2.1.push (e := .inl ((gl_d κ).2 7, n, .inr (.inr (.inr (.inr (fun _ => none)))))) hW.1 rfl (C.hA _ hS.1)
  have hS1 : va_S (gl_A κ) (gl_s κ).heap H1 locs := ⟨Nat.le_trans hS.1 (by omega), fun x h1 h2 => (o1 x (Nat.lt_of_lt_of_le h1 hS.1)).trans (hS.2.1 x h1 h2), hS.2.2⟩
  have hw := gl_W.push (δ := gl_d κ) (A := gl_A κ) (q := H.size) (H1 := H1) (kk := (7, n)) (Ir := fun _ => 0) (Lr := fun _ => 0) (Br := fun _ => false) hW.2.2 rfl hP1 hD1
  have kk := k (va_up ad N H.size) H1 locs la hw hS1 (gl_X_new hX rfl) (gl_okl_mono (Nat.le_succ N) ho) (gl_okc (show N < N + 1 by omega) (gl_oks_mono (Nat.le_succ N) (gl_ok1 hs))) (by rw [gl_lp_same gl_new_same 0 ho]; exact hl)
  rw [List.map_cons, gl_sv_same gl_new_same (gl_ok1 hs)] at kk
  have e2 : gl_v (va_up ad N H.size) (.ref N) = .ref H.size := congrArg Value.ref gl_up_eq
  rw [e2] at kk
  exact kk
def gl_f0 (ts : List Nat) : List Value := ts.map fun t => if t ≤ 1 then .int 0 else .null
theorem gl_fs_f0 (ad : Nat → Nat) : ∀ (ts : List Nat) (j : Nat), gl_fs ad (fun _ => 0) (fun _ => false) (fun _ => none) ts j = gl_f0 ts
  | [], _ => rfl
  | t :: ts, j => by
    rw [gl_fs, gl_fs_f0 ad ts (j + 1)]
    show _ = (if t ≤ 1 then Value.int 0 else Value.null) :: gl_f0 ts
    congr 1
    match t with
    | 0 => rfl
    | 1 => rfl
    | t + 2 => simp [gl_fv, va_rf]
theorem j_new (C : gl_Cx κ own cc (gl_rm h M Ms) ret) {Cn : String} {T : u_T} {Nf ci : Nat} (hcl : vwCl[ci]? = some (Cn, T, Nf)) (hin : ∀ w ∈ u_ws Cn T Nf, w ∈ lw_all) (ty : Nat → FieldType) (hty : ∀ k, k < Nf → parseFieldDescriptor (T k).2.2.1 = some (ty k)) (hf0 : ∀ j, j < Nf → defaultValue (ty j) = vp_V (gl_f0 (gl_ft ci)) j) (q1 : Cond.classLink own index Cn ∈ lw_all) (q2 : Cond.instantiable Cn Nf ∈ lw_all) (q3 : Cond.initialized Cn ∈ lw_all) (h1 : nc + 1 ≤ M) (h2 : ns + Nf ≤ Ms) (d : decode cc pc = .ok (.new index, 3)) (n' : Nat) (hn : pc + 3 = n') (k : gl_J κ (nc + 1) (ns + Nf) ((N + 1, va_up sh N (ci + 8, 0)), va_up I N (fun _ => 0), va_up L N (fun _ => 0), va_up B N (fun _ => false), va_up R N (fun _ => none)) n' ls (.ref N :: st)) : gl_J κ nc ns ((N, sh), I, L, B, R) pc ls st := by
  subst hn
  intro ad H locs la hW hS hX ho hs hl
  have e : gl_R κ = gl_rm h M Ms := C.ro
  refine va_new (fs := gl_f0 (gl_ft ci)) C.ex C.bt C.ts hin ty hty C.ow (C.ts _ q1) (C.ts _ q2) (C.ts _ q3) C.K hW.1 hW.2.1 hS C.hA hcl hf0 (by rw [show κ.1.2.2.2.1 = _ from e]; exact h1) (by rw [show κ.1.2.2.2.1 = _ from e]; exact h2) d (fun q H1 hP1 hD1 hS1 => ?_)
  have hw := gl_W.push (δ := gl_d κ) (A := gl_A κ) (q := q) (e := .inr (ci, gl_f0 (gl_ft ci))) (H1 := H1) (kk := (ci + 8, 0)) (Ir := fun _ => 0) (Lr := fun _ => 0) (Br := fun _ => false) hW.2.2 (by show Sum.inr (ci, _) = _; rw [gl_fs_f0]) hP1 hD1
  have kk := k (va_up ad N q) H1 locs la hw hS1 (gl_X_new hX rfl) (gl_okl_mono (Nat.le_succ N) ho) (gl_okc (show N < N + 1 by omega) (gl_oks_mono (Nat.le_succ N) hs)) (by rw [gl_lp_same gl_new_same 0 ho]; exact hl)
  rw [List.map_cons, gl_sv_same gl_new_same hs] at kk
  have e2 : gl_v (va_up ad N q) (.ref N) = .ref q := congrArg Value.ref gl_up_eq
  rw [e2] at kk
  exact kk
theorem gl_rset {ad : Nat → Nat} {δ : gl_Del} {A : Nat → Prop} {H1 : Heap} {c n t j v : Nat} (ht : 3 ≤ t ∧ t ≤ 7) (hc : c < Λ.1) (hk : Λ.2 c = (t, n)) (hwf : gl_wf (Λ, I, L, B, R)) (hv : v < Λ.1) (hP : va_P δ.1 vwCl ((gl_stl δ ad (Λ, I, L, B, R)).set c (ad c, .inl (δ.2 t, n, .inr (.inr (.inr (.inr (va_up (fun j => (R c j).map ad) j (some (ad v))))))))) H1) (hD : va_D A ((gl_stl δ ad (Λ, I, L, B, R)).set c (ad c, .inl (δ.2 t, n, .inr (.inr (.inr (.inr (va_up (fun j => (R c j).map ad) j (some (ad v)))))))))) : gl_W δ A ad (Λ, I, L, B, gl_u2 R c j (some v)) H1 := by
  have e : va_up (fun j => (R c j).map ad) j (some (ad v)) = fun i => (gl_u2 R c j (some v) c i).map ad := by
    funext i
    rw [gl_u2_eq]
    by_cases h : i = j
    · subst h; rw [gl_up_eq, gl_up_eq]; rfl
    · rw [gl_up_ne h, gl_up_ne h]
  rw [e] at hP hD
  refine gl_W.set (S := (Λ, I, L, B, R)) (S' := (Λ, I, L, B, gl_u2 R c j (some v))) hc rfl (gl_ce_r (S := (Λ, I, L, B, gl_u2 R c j (some v))) ht hk) (fun c' hn => ?_) (gl_wf_put hwf (fun x hx => by cases hx; exact hv)) hP hD
  show gl_cr δ.2 ad (Λ.2 c') (I c') (L c') (B c') (gl_u2 R c j (some v) c') = gl_cr δ.2 ad (Λ.2 c') (I c') (L c') (B c') (R c')
  rw [gl_u2_ne hn]
theorem j_aast (C : gl_Cx κ own cc (gl_rm h M Ms) ret) {c n j t v ci x : Nat} {r : vw_C} (ht : 3 ≤ t ∧ t ≤ 6) (hty : ∀ dT : Nat → ClassId, (gl_tys dT)[t]? = some (dT t, .object r.1)) (hcl : vwCl[ci]? = some r) (hk : Λ.2 c = (t, n)) (hkv : Λ.2 v = (ci + 8, x)) (hj : j < n) (hb : n < 2 ^ 31) (d : decode cc pc = .ok (.aastore, 1)) (n' : Nat) (hn : pc + 1 = n') (k : gl_J κ nc ns (Λ, I, L, B, gl_u2 R c j (some v)) n' ls st) : gl_J κ nc ns (Λ, I, L, B, R) pc ls (.ref v :: .int (nI j) :: .ref c :: st) := by
  subst hn
  intro ad H locs la hW hS hX ho hs hl
  have hc : c < Λ.1 := gl_okh (gl_ok2 hs)
  have hv : v < Λ.1 := gl_okh hs
  have ht7 : 3 ≤ t ∧ t ≤ 7 := ⟨ht.1, by omega⟩
  refine va_astq C.ex C.bt C.K hW.1 hW.2.1 hS c t v ci (gl_at_r (S := (Λ, I, L, B, R)) ht7 hc hk) (hty _) (gl_obj_at (S := (Λ, I, L, B, R)) hv hkv) hcl (vp_in_nI hj hb) d (fun H1 locs1 hP1 hD1 hS1 => ?_)
  rw [nI_clamp (Nat.lt_trans hj hb)] at hP1 hD1
  exact k ad H1 locs1 la (gl_rset ht7 hc hk hW.2.2 hv hP1 hD1) hS1 hX ho (gl_ok3 hs) hl
theorem j_aastA (C : gl_Cx κ own cc (gl_rm h M Ms) ret) {c n j v nv : Nat} (hk : Λ.2 c = (7, n)) (hkv : Λ.2 v = (0, nv)) (hj : j < n) (hb : n < 2 ^ 31) (d : decode cc pc = .ok (.aastore, 1)) (n' : Nat) (hn : pc + 1 = n') (k : gl_J κ nc ns (Λ, I, L, B, gl_u2 R c j (some v)) n' ls st) : gl_J κ nc ns (Λ, I, L, B, R) pc ls (.ref v :: .int (nI j) :: .ref c :: st) := by
  subst hn
  intro ad H locs la hW hS hX ho hs hl
  have hc : c < Λ.1 := gl_okh (gl_ok2 hs)
  have hv : v < Λ.1 := gl_okh hs
  have h7 : 3 ≤ 7 ∧ 7 ≤ 7 := by decide
  have ha := gl_at_r (S := (Λ, I, L, B, R)) (ad := ad) (δ := gl_d κ) h7 hc hk
  have hav := gl_at_i (S := (Λ, I, L, B, R)) (ad := ad) (δ := gl_d κ) hv hkv
  obtain ⟨kA, kI, g1, g2, g3⟩ := C.ev.2.2.1
  refine W.aast C.ex C.bt (hW.1 c _ ha) (fun q h => by cases h) (fun h => by cases h) g1 g2 rfl g3 ⟨nI_pos (by omega), by show _ < (arrV _ _ _).slots.size; rw [arrV_size, nI_clamp (Nat.lt_trans hj hb)]; exact hj⟩ (hW.1 v _ hav) (fun q h => by cases h) g3 (gl_asg _ _) rfl rfl d fun H1 e1 z oq => ?_
  rw [nI_clamp (Nat.lt_trans hj hb)] at e1 ⊢
  refine k ad H1 _ la (gl_rset h7 hc hk hW.2.2 hv (hW.1.set hW.2.1 ha ?_ oq) (hW.2.1.set ha)) (hS.put z oq (hW.2.1.2 c _ ha)) hX ho (gl_ok3 hs) hl
  show H1[ad c]? = some (vp_cell _ _)
  rw [e1]
  rw [vp_cell_q, vp_cell_q, arrV_store]
  congr 2
  funext q
  by_cases hq : q = j
  · subst hq
    simp [updV, va_up, va_rf]
  · simp [updV, va_up, hq]
theorem j_copyI (C : gl_Cx κ own cc (gl_rm h M Ms) ret) {a c na n sp dp w : Nat} (q1 : Cond.methodLink own index arraycopyName ∈ lw_all) (hka : Λ.2 a = (0, na)) (hk : Λ.2 c = (0, n)) (h1 : sp + w ≤ na) (h2 : dp + w ≤ n) (hb1 : na < 2 ^ 31) (hb2 : n < 2 ^ 31) (hh : 1 ≤ h) (hr : (st.map fun v => v.category).sum ≤ 8) (d : decode cc pc = .ok (.invokestatic index, 3)) (n' : Nat) (hn : pc + 3 = n') (k : gl_J κ nc ns (Λ, va_up I c (va_cpy (I a) (I c) sp dp w), L, B, R) n' ls st) : gl_J κ nc ns (Λ, I, L, B, R) pc ls (.int (nI w) :: .int (nI dp) :: .ref c :: .int (nI sp) :: .ref a :: st) := by
  subst hn
  intro ad H locs la hW hS hX ho hs hl
  have hc : c < Λ.1 := gl_okh (gl_ok2 hs)
  have ha : a < Λ.1 := gl_okh (gl_ok1 (gl_ok3 hs))
  have e : gl_R κ = gl_rm h M Ms := C.ro
  have e1 : (nI sp).toNatClampNeg = sp := nI_clamp (by omega)
  have e2 : (nI dp).toNatClampNeg = dp := nI_clamp (by omega)
  have e3 : (nI w).toNatClampNeg = w := nI_clamp (by omega)
  refine va_copyi C.ex C.bt (by rw [C.ml]; exact hl.1.symm) C.ow (C.ts _ q1) (C.ts _ q451) (C.ts _ q450) (C.ts _ q67) C.K hW.1 hW.2.1 hS a c 0 0 (gl_at_i (S := (Λ, I, L, B, R)) ha hka) (gl_at_i (S := (Λ, I, L, B, R)) hc hk) rfl rfl (by decide) (nI_pos (by omega)) (nI_pos (by omega)) (nI_pos (by omega)) (by rw [e1, e3]; exact h1) (by rw [e2, e3]; exact h2) (fun i hi => rfl) (by rw [show κ.1.2.2.2.1 = _ from e]; exact hh) (by
    rw [show κ.1.2.2.2.1 = _ from e, gl_cat_map]
    have hz : nativeFrameWords "java/lang/System" "arraycopy" 5 + 11 ≤ 52 := by decide +kernel
    show _ ≤ 60 * h
    omega) d (fun H1 locs1 hP1 hD1 hS1 => ?_)
  rw [e1, e2, e3] at hP1 hD1
  refine k ad H1 locs1 la (gl_W.set (S := (Λ, I, L, B, R)) (S' := (Λ, va_up I c (va_cpy (I a) (I c) sp dp w), L, B, R)) hc rfl (by rw [gl_ce_i (S := (Λ, va_up I c (va_cpy (I a) (I c) sp dp w), L, B, R)) hk]; show Sum.inl (_, _, Sum.inl (va_up I c _ c)) = _; rw [gl_up_eq]) (fun c' hn => ?_) (gl_wf_same hW.2.2 rfl rfl) hP1 hD1) hS1 hX ho (gl_ok2 (gl_ok3 hs)) hl
  show gl_cr (gl_d κ).2 ad (Λ.2 c') (va_up I c _ c') (L c') (B c') (R c') = gl_cr (gl_d κ).2 ad (Λ.2 c') (I c') (L c') (B c') (R c')
  rw [gl_up_ne hn]
theorem j_copyJ (C : gl_Cx κ own cc (gl_rm h M Ms) ret) {a c na n sp dp w : Nat} (q1 : Cond.methodLink own index arraycopyName ∈ lw_all) (hka : Λ.2 a = (2, na)) (hk : Λ.2 c = (2, n)) (h1 : sp + w ≤ na) (h2 : dp + w ≤ n) (hb1 : na < 2 ^ 31) (hb2 : n < 2 ^ 31) (hh : 1 ≤ h) (hr : (st.map fun v => v.category).sum ≤ 8) (d : decode cc pc = .ok (.invokestatic index, 3)) (n' : Nat) (hn : pc + 3 = n') (k : gl_J κ nc ns (Λ, I, va_up L c (va_cpy (L a) (L c) sp dp w), B, R) n' ls st) : gl_J κ nc ns (Λ, I, L, B, R) pc ls (.int (nI w) :: .int (nI dp) :: .ref c :: .int (nI sp) :: .ref a :: st) := by
  subst hn
  intro ad H locs la hW hS hX ho hs hl
  have hc : c < Λ.1 := gl_okh (gl_ok2 hs)
  have ha : a < Λ.1 := gl_okh (gl_ok1 (gl_ok3 hs))
  have e : gl_R κ = gl_rm h M Ms := C.ro
  have e1 : (nI sp).toNatClampNeg = sp := nI_clamp (by omega)
  have e2 : (nI dp).toNatClampNeg = dp := nI_clamp (by omega)
  have e3 : (nI w).toNatClampNeg = w := nI_clamp (by omega)
  refine va_copyl C.ex C.bt (by rw [C.ml]; exact hl.1.symm) C.ow (C.ts _ q1) (C.ts _ q451) (C.ts _ q450) (C.ts _ q67) C.K hW.1 hW.2.1 hS a c 2 2 (gl_at_l (S := (Λ, I, L, B, R)) ha hka) (gl_at_l (S := (Λ, I, L, B, R)) hc hk) rfl rfl (by decide) (nI_pos (by omega)) (nI_pos (by omega)) (nI_pos (by omega)) (by rw [e1, e3]; exact h1) (by rw [e2, e3]; exact h2) (fun i hi => rfl) (by rw [show κ.1.2.2.2.1 = _ from e]; exact hh) (by
    rw [show κ.1.2.2.2.1 = _ from e, gl_cat_map]
    have hz : nativeFrameWords "java/lang/System" "arraycopy" 5 + 11 ≤ 52 := by decide +kernel
    show _ ≤ 60 * h
    omega) d (fun H1 locs1 hP1 hD1 hS1 => ?_)
  rw [e1, e2, e3] at hP1 hD1
  refine k ad H1 locs1 la (gl_W.set (S := (Λ, I, L, B, R)) (S' := (Λ, I, va_up L c (va_cpy (L a) (L c) sp dp w), B, R)) hc rfl (by rw [gl_ce_l (S := (Λ, I, va_up L c (va_cpy (L a) (L c) sp dp w), B, R)) hk]; show Sum.inl (_, _, Sum.inr (Sum.inl (va_up L c _ c))) = _; rw [gl_up_eq]) (fun c' hn => ?_) (gl_wf_same hW.2.2 rfl rfl) hP1 hD1) hS1 hX ho (gl_ok2 (gl_ok3 hs)) hl
  show gl_cr (gl_d κ).2 ad (Λ.2 c') (I c') (va_up L c _ c') (B c') (R c') = gl_cr (gl_d κ).2 ad (Λ.2 c') (I c') (L c') (B c') (R c')
  rw [gl_up_ne hn]
theorem j_copyZ (C : gl_Cx κ own cc (gl_rm h M Ms) ret) {a c na n sp dp w : Nat} (q1 : Cond.methodLink own index arraycopyName ∈ lw_all) (hka : Λ.2 a = (1, na)) (hk : Λ.2 c = (1, n)) (h1 : sp + w ≤ na) (h2 : dp + w ≤ n) (hb1 : na < 2 ^ 31) (hb2 : n < 2 ^ 31) (hh : 1 ≤ h) (hr : (st.map fun v => v.category).sum ≤ 8) (d : decode cc pc = .ok (.invokestatic index, 3)) (n' : Nat) (hn : pc + 3 = n') (k : gl_J κ nc ns (Λ, I, L, va_up B c (va_cpy (B a) (B c) sp dp w), R) n' ls st) : gl_J κ nc ns (Λ, I, L, B, R) pc ls (.int (nI w) :: .int (nI dp) :: .ref c :: .int (nI sp) :: .ref a :: st) := by
  subst hn
  intro ad H locs la hW hS hX ho hs hl
  have hc : c < Λ.1 := gl_okh (gl_ok2 hs)
  have ha : a < Λ.1 := gl_okh (gl_ok1 (gl_ok3 hs))
  have e : gl_R κ = gl_rm h M Ms := C.ro
  have e1 : (nI sp).toNatClampNeg = sp := nI_clamp (by omega)
  have e2 : (nI dp).toNatClampNeg = dp := nI_clamp (by omega)
  have e3 : (nI w).toNatClampNeg = w := nI_clamp (by omega)
  refine va_copyi C.ex C.bt (by rw [C.ml]; exact hl.1.symm) C.ow (C.ts _ q1) (C.ts _ q451) (C.ts _ q450) (C.ts _ q67) C.K hW.1 hW.2.1 hS a c 1 1 (gl_at_b (S := (Λ, I, L, B, R)) ha hka) (gl_at_b (S := (Λ, I, L, B, R)) hc hk) rfl rfl (by decide) (nI_pos (by omega)) (nI_pos (by omega)) (nI_pos (by omega)) (by rw [e1, e3]; exact h1) (by rw [e2, e3]; exact h2) (fun i hi => b2i_fits _) (by rw [show κ.1.2.2.2.1 = _ from e]; exact hh) (by
    rw [show κ.1.2.2.2.1 = _ from e, gl_cat_map]
    have hz : nativeFrameWords "java/lang/System" "arraycopy" 5 + 11 ≤ 52 := by decide +kernel
    show _ ≤ 60 * h
    omega) d (fun H1 locs1 hP1 hD1 hS1 => ?_)
  rw [e1, e2, e3] at hP1 hD1
  have eb : va_cpy (fun j => b2i (B a j)) (fun j => b2i (B c j)) sp dp w = fun j => b2i (va_up B c (va_cpy (B a) (B c) sp dp w) c j) := by
    funext j
    rw [gl_up_eq]
    unfold va_cpy
    by_cases hj : dp ≤ j ∧ j < dp + w
    · rw [if_pos hj, if_pos hj]
    · rw [if_neg hj, if_neg hj]
  have hP1 : va_P (gl_d κ).1 vwCl ((gl_stl (gl_d κ) ad (Λ, I, L, B, R)).set c (ad c, .inl ((gl_d κ).2 1, n, .inl (va_cpy (fun j => b2i (B a j)) (fun j => b2i (B c j)) sp dp w)))) H1 := hP1
  have hD1 : va_D (gl_A κ) ((gl_stl (gl_d κ) ad (Λ, I, L, B, R)).set c (ad c, .inl ((gl_d κ).2 1, n, .inl (va_cpy (fun j => b2i (B a j)) (fun j => b2i (B c j)) sp dp w)))) := hD1
  rw [eb] at hP1 hD1
  refine k ad H1 locs1 la (gl_W.set (S := (Λ, I, L, B, R)) (S' := (Λ, I, L, va_up B c (va_cpy (B a) (B c) sp dp w), R)) hc rfl (gl_ce_b (S := (Λ, I, L, va_up B c (va_cpy (B a) (B c) sp dp w), R)) hk) (fun c' hn => ?_) (gl_wf_same hW.2.2 rfl rfl) hP1 hD1) hS1 hX ho (gl_ok2 (gl_ok3 hs)) hl
  show gl_cr (gl_d κ).2 ad (Λ.2 c') (I c') (L c') (va_up B c _ c') (R c') = gl_cr (gl_d κ).2 ad (Λ.2 c') (I c') (L c') (B c') (R c')
  rw [gl_up_ne hn]
theorem j_cast (C : gl_Cx κ own cc (gl_rm h M Ms) ret) {c ci x Nf : Nat} {Cn nm : String} {T : u_T} (hcl : vwCl[ci]? = some (Cn, T, Nf)) (hk : S.1.2 c = (ci + 8, x)) (q1 : Cond.classLink own index nm ∈ lw_all) (q2 : Cond.castable Cn nm ∈ lw_tbl) (d : decode cc pc = .ok (.checkcast index, 3)) (n' : Nat) (hn : pc + 3 = n') (k : gl_J κ nc ns S n' ls (.ref c :: st)) : gl_J κ nc ns S pc ls (.ref c :: st) := by
  subst hn
  intro ad H locs la hW hS hX ho hs hl
  exact va_castY C.ex C.bt C.ow (C.ts _ q1) (C.nw q2 rfl) (va_recv C.K hW.1 hcl (gl_obj_at (gl_okh hs) hk)) d (k ad H locs la hW hS hX ho hs hl)
theorem j_castN (C : gl_Cx κ own cc (gl_rm h M Ms) ret) (d : decode cc pc = .ok (.checkcast index, 3)) (n' : Nat) (hn : pc + 3 = n') (k : gl_J κ nc ns S n' ls (.null :: st)) : gl_J κ nc ns S pc ls (.null :: st) := by
  subst hn
  intro ad H locs la hW hS hX ho hs hl
  exact lv_castN C.ex C.bt d (k ad H locs la hW hS hX ho hs hl)
end RWN
