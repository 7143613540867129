/-! rows of the frame: fields, arrays, new cells, returns -/
set_option maxRecDepth 100000
def gl_u2 {α : Type} (F : Nat → Nat → α) (c j : Nat) (v : α) : Nat → Nat → α := va_up F c (va_up (F c) j v)
theorem gl_up_eq {α : Type} {f : Nat → α} {k : Nat} {v : α} : va_up f k v k = v := by simp [va_up]
theorem gl_up_ne {α : Type} {f : Nat → α} {k j : Nat} {v : α} (h : j ≠ k) : va_up f k v j = f j := by simp [va_up, h]
theorem gl_u2_ne {α : Type} {F : Nat → Nat → α} {c j c' : Nat} {v : α} (h : c' ≠ c) : gl_u2 F c j v c' = F c' := gl_up_ne h
theorem gl_u2_eq {α : Type} {F : Nat → Nat → α} {c j : Nat} {v : α} : gl_u2 F c j v c = va_up (F c) j v := gl_up_eq
theorem gl_ce_obj {δ : gl_Del} {ad : Nat → Nat} {S : gl_Sto} {c ci x : Nat} (hk : S.1.2 c = (ci + 8, x)) : gl_ce δ ad S c = .inr (ci, gl_fs ad (S.2.1 c) (S.2.2.2.1 c) (S.2.2.2.2 c) (gl_ft ci) 0) := by
  unfold gl_ce; rw [hk]; rfl
theorem gl_ce_i {δ : gl_Del} {ad : Nat → Nat} {S : gl_Sto} {c n : Nat} (hk : S.1.2 c = (0, n)) : gl_ce δ ad S c = .inl (δ.2 0, n, .inl (S.2.1 c)) := by
  unfold gl_ce; rw [hk]; rfl
theorem gl_ce_b {δ : gl_Del} {ad : Nat → Nat} {S : gl_Sto} {c n : Nat} (hk : S.1.2 c = (1, n)) : gl_ce δ ad S c = .inl (δ.2 1, n, .inl (fun j => b2i (S.2.2.2.1 c j))) := by
  unfold gl_ce; rw [hk]; rfl
theorem gl_ce_l {δ : gl_Del} {ad : Nat → Nat} {S : gl_Sto} {c n : Nat} (hk : S.1.2 c = (2, n)) : gl_ce δ ad S c = .inl (δ.2 2, n, .inr (.inl (S.2.2.1 c))) := by
  unfold gl_ce; rw [hk]; rfl
theorem gl_ce_r {δ : gl_Del} {ad : Nat → Nat} {S : gl_Sto} {c n t : Nat} (ht : 3 ≤ t ∧ t ≤ 7) (hk : S.1.2 c = (t, n)) : gl_ce δ ad S c = .inl (δ.2 t, n, .inr (.inr (.inr (.inr (fun j => (S.2.2.2.2 c j).map ad))))) := by
  unfold gl_ce; rw [hk]
  match t, ht with
  | 3, _ => rfl
  | 4, _ => rfl
  | 5, _ => rfl
  | 6, _ => rfl
  | 7, _ => rfl
theorem gl_W.set {δ : gl_Del} {A : Nat → Prop} {ad : Nat → Nat} {S S' : gl_Sto} {c : Nat} {e : va_E} {H1 : Heap} (hc : c < S.1.1) (hN : S'.1.1 = S.1.1) (he : gl_ce δ ad S' c = e) (ho : ∀ c', c' ≠ c → gl_ce δ ad S' c' = gl_ce δ ad S c') (hwf : gl_wf S')
    (hP : va_P δ.1 vwCl ((gl_stl δ ad S).set c (ad c, e)) H1) (hD : va_D A ((gl_stl δ ad S).set c (ad c, e))) : gl_W δ A ad S' H1 := by
  rw [gl_stl_set hc hN he ho] at hP hD
  exact ⟨hP, hD, hwf⟩
theorem gl_W.push {δ : gl_Del} {A : Nat → Prop} {ad : Nat → Nat} {N : Nat} {sh : Nat → Nat × Nat} {I : Nat → Nat → Int32} {L : Nat → Nat → Int64} {B : Nat → Nat → Bool} {R : Nat → Nat → Option Nat} {q : Nat} {e : va_E} {H1 : Heap} {kk : Nat × Nat} {Lr : Nat → Int64} {Ir : Nat → Int32} {Br : Nat → Bool} (hwf : gl_wf ((N, sh), I, L, B, R))
    (he : gl_cr δ.2 (va_up ad N q) kk Ir Lr Br (fun _ => none) = e)
    (hP : va_P δ.1 vwCl (gl_stl δ ad ((N, sh), I, L, B, R) ++ [(q, e)]) H1) (hD : va_D A (gl_stl δ ad ((N, sh), I, L, B, R) ++ [(q, e)])) :
    gl_W δ A (va_up ad N q) ((N + 1, va_up sh N kk), va_up I N Ir, va_up L N Lr, va_up B N Br, va_up R N (fun _ => none)) H1 := by
  have e1 : gl_stl δ ad ((N, sh), I, L, B, R) ++ [(q, e)] = gl_stl δ (va_up ad N q) ((N + 1, va_up sh N kk), va_up I N Ir, va_up L N Lr, va_up B N Br, va_up R N (fun _ => none)) := by
    unfold gl_stl
    show _ = List.map _ (List.range (N + 1))
    rw [List.range_succ, List.map_append]
    congr 1
    · refine List.map_congr_left fun c hc => ?_
      have hc' : c < N := List.mem_range.mp hc
      have hn : c ≠ N := Nat.ne_of_lt hc'
      have : gl_ce δ (va_up ad N q) ((N + 1, va_up sh N kk), va_up I N Ir, va_up L N Lr, va_up B N Br, va_up R N (fun _ => none)) c = gl_ce δ ad ((N, sh), I, L, B, R) c := by
        unfold gl_ce
        show gl_cr δ.2 (va_up ad N q) (va_up sh N kk c) (va_up I N Ir c) (va_up L N Lr c) (va_up B N Br c) (va_up R N (fun _ => none) c) = gl_cr δ.2 ad (sh c) (I c) (L c) (B c) (R c)
        rw [gl_up_ne hn, gl_up_ne hn, gl_up_ne hn, gl_up_ne hn, gl_up_ne hn]
        refine gl_cr_ad fun j r hr => gl_up_ne ?_
        exact Nat.ne_of_lt (hwf c j r hc' hr)
      rw [this, gl_up_ne hn]
    · show [(q, e)] = [(va_up ad N q N, gl_cr δ.2 (va_up ad N q) (va_up sh N kk N) (va_up I N Ir N) (va_up L N Lr N) (va_up B N Br N) (va_up R N (fun _ => none) N))]
      rw [gl_up_eq, gl_up_eq, gl_up_eq, gl_up_eq, gl_up_eq, gl_up_eq, he]
  rw [e1] at hP hD
  refine ⟨hP, hD, fun c j r hc hr => ?_⟩
  have hr : va_up R N (fun _ => none) c j = some r := hr
  have hc : c < N + 1 := hc
  show r < N + 1
  by_cases hn : c = N
  · subst hn
    rw [gl_up_eq] at hr
    cases hr
  · rw [gl_up_ne hn] at hr
    have := hwf c j r (show c < N by omega) hr
    have : r < N := this
    omega
section RWC
variable {κ : gl_Kap} {own : String} {cc : ByteArray} {rm : Room} {ret : Option FieldType} {nc ns pc : Nat} {S : gl_Sto} {ls : List (Option Value)} {st : List Value}
variable {Λ : gl_Lay} {I : Nat → Nat → Int32} {L : Nat → Nat → Int64} {B : Nat → Nat → Bool} {R : Nat → Nat → Option Nat} {N : Nat} {sh : Nat → Nat × Nat}
theorem gl_wf_same {S' : gl_Sto} (h : gl_wf S) (h1 : S'.1.1 = S.1.1) (h2 : S'.2.2.2.2 = S.2.2.2.2) : gl_wf S' := fun c j r hc hr => by
  rw [h1] at hc ⊢
  rw [h2] at hr
  exact h c j r hc hr
/-- a field's symbolic value -/
def gl_sf (S : gl_Sto) (c j : Nat) : Nat → Value
  | 0 => .int (S.2.1 c j)
  | 1 => .int (b2i (S.2.2.2.1 c j))
  | _ => va_rf (S.2.2.2.2 c j)
theorem gl_sf_v (ad : Nat → Nat) (S : gl_Sto) (c j t : Nat) : gl_v ad (gl_sf S c j t) = gl_fv ad (S.2.1 c) (S.2.2.2.1 c) (S.2.2.2.2 c) j t := by
  match t with
  | 0 => rfl
  | 1 => rfl
  | t + 2 => exact gl_v_rf ad _
theorem gl_sf_ok {c j t : Nat} (h : gl_wf S) (hc : c < S.1.1) : gl_okv S.1.1 (gl_sf S c j t) := by
  match t with
  | 0 => trivial
  | 1 => trivial
  | t + 2 =>
    show gl_okv S.1.1 (va_rf (S.2.2.2.2 c j))
    cases hr : S.2.2.2.2 c j with
    | none => trivial
    | some r => exact h c j r hc hr
theorem gl_obj_at {ad : Nat → Nat} {δ : gl_Del} {c ci x : Nat} (hc : c < S.1.1) (hk : S.1.2 c = (ci + 8, x)) : (gl_stl δ ad S)[c]? = some (ad c, .inr (ci, gl_fs ad (S.2.1 c) (S.2.2.2.1 c) (S.2.2.2.2 c) (gl_ft ci) 0)) := by
  rw [gl_stl_get hc, gl_ce_obj hk]
theorem gl_fs_at {ad : Nat → Nat} {c k t ci : Nat} (ht : (gl_ft ci)[k]? = some t) : (gl_fs ad (S.2.1 c) (S.2.2.2.1 c) (S.2.2.2.2 c) (gl_ft ci) 0)[k]? = some (gl_v ad (gl_sf S c k t)) := by
  rw [gl_fs_get, ht, Option.map_some, Nat.zero_add, gl_sf_v]
theorem j_getf (C : gl_Cx κ own cc rm ret) {ref Cn : String} {T : u_T} {M ci index c x k t : Nat} (hk : S.1.2 c = (ci + 8, x)) (hcl : vwCl[ci]? = some (Cn, T, M)) (hin : ∀ w ∈ u_ws Cn T M, w ∈ lw_all) (hkM : k < M) (ht : (gl_ft ci)[k]? = some t) (q : Cond.fieldLink own index ref (T k).2.1 (T k).2.2.1 ∈ lw_all) (hsame : ∀ x, (gl_s κ).fieldFound? (T k).1 (T k).2.1 (T k).2.2.1 = some x → (gl_s κ).fieldFound? ref (T k).2.1 (T k).2.2.1 = some x)
    (d : decode cc pc = .ok (.getfield index, 3)) (n' : Nat) (hn : pc + 3 = n') (kk : gl_J κ nc ns S n' ls (gl_sf S c k t :: st)) : gl_J κ nc ns S pc ls (.ref c :: st) := by
  subst hn
  intro ad H locs la hW hS hX ho hs hl
  have hc : c < S.1.1 := gl_okh hs
  exact va_get C.ex C.bt C.ts hin C.ow C.K hW.1 c (gl_obj_at hc hk) hcl k hkM (C.ts _ q) hsame (gl_fs_at ht) d (kk ad H locs la hW hS hX ho (gl_okc (gl_sf_ok hW.2.2 hc) (gl_ok1 hs)) hl)
theorem j_getN (C : gl_Cx κ own cc rm ret) {ref Cn host : String} {T : u_T} {M ci index c x k t : Nat} (hk : S.1.2 c = (ci + 8, x)) (hcl : vwCl[ci]? = some (Cn, T, M)) (hin : ∀ w ∈ u_ws Cn T M, w ∈ lw_all) (hkM : k < M) (ht : (gl_ft ci)[k]? = some t) (q : Cond.fieldLinkNest own index ref (T k).2.1 (T k).2.2.1 host ∈ lw_tbl) (hsame : ∀ x, (gl_s κ).fieldFound? (T k).1 (T k).2.1 (T k).2.2.1 = some x → (gl_s κ).fieldFound? ref (T k).2.1 (T k).2.2.1 = some x)
    (d : decode cc pc = .ok (.getfield index, 3)) (n' : Nat) (hn : pc + 3 = n') (kk : gl_J κ nc ns S n' ls (gl_sf S c k t :: st)) : gl_J κ nc ns S pc ls (.ref c :: st) := by
  subst hn
  intro ad H locs la hW hS hX ho hs hl
  have hc : c < S.1.1 := gl_okh hs
  exact va_getN C.ex C.bt C.ts hin C.ow C.K hW.1 c (gl_obj_at hc hk) hcl k hkM (va_Nw.use rfl (C.nw q rfl)) hsame (gl_fs_at ht) d (kk ad H locs la hW hS hX ho (gl_okc (gl_sf_ok hW.2.2 hc) (gl_ok1 hs)) hl)
/-- what a write of a field leaves: ints, booleans, references -/
theorem gl_setI {ad : Nat → Nat} {δ : gl_Del} {A : Nat → Prop} {H1 : Heap} {c ci x k : Nat} {v : Int32} (hc : c < Λ.1) (hk : Λ.2 c = (ci + 8, x)) (ht : (gl_ft ci)[k]? = some 0) (hwf : gl_wf (Λ, I, L, B, R))
    (hP : va_P δ.1 vwCl ((gl_stl δ ad (Λ, I, L, B, R)).set c (ad c, .inr (ci, (gl_fs ad (I c) (B c) (R c) (gl_ft ci) 0).set k (.int v)))) H1) (hD : va_D A ((gl_stl δ ad (Λ, I, L, B, R)).set c (ad c, .inr (ci, (gl_fs ad (I c) (B c) (R c) (gl_ft ci) 0).set k (.int v))))) : gl_W δ A ad (Λ, gl_u2 I c k v, L, B, R) H1 := by
  refine gl_W.set (S := (Λ, I, L, B, R)) (S' := (Λ, gl_u2 I c k v, L, B, R)) hc rfl ?_ ?_ (gl_wf_same hwf rfl rfl) hP hD
  · rw [gl_ce_obj (S := (Λ, gl_u2 I c k v, L, B, R)) hk]
    show Sum.inr (ci, gl_fs ad (gl_u2 I c k v c) (B c) (R c) (gl_ft ci) 0) = _
    rw [gl_u2_eq, gl_fs_set (Ic := I c) (Bc := B c) (Rc := R c) (v := .int v) ht]
    · show Value.int (va_up (I c) k v k) = _
      rw [gl_up_eq]
    · intro i t' hi
      match t' with
      | 0 => show Value.int (va_up (I c) k v i) = _; rw [gl_up_ne hi]; rfl
      | 1 => rfl
      | t' + 2 => rfl
  · intro c' hn
    show gl_cr δ.2 ad (Λ.2 c') (gl_u2 I c k v c') (L c') (B c') (R c') = gl_cr δ.2 ad (Λ.2 c') (I c') (L c') (B c') (R c')
    rw [gl_u2_ne hn]
theorem gl_setB {ad : Nat → Nat} {δ : gl_Del} {A : Nat → Prop} {H1 : Heap} {c ci x k : Nat} {v : Bool} (hc : c < Λ.1) (hk : Λ.2 c = (ci + 8, x)) (ht : (gl_ft ci)[k]? = some 1) (hwf : gl_wf (Λ, I, L, B, R))
    (hP : va_P δ.1 vwCl ((gl_stl δ ad (Λ, I, L, B, R)).set c (ad c, .inr (ci, (gl_fs ad (I c) (B c) (R c) (gl_ft ci) 0).set k (.int (b2i v))))) H1) (hD : va_D A ((gl_stl δ ad (Λ, I, L, B, R)).set c (ad c, .inr (ci, (gl_fs ad (I c) (B c) (R c) (gl_ft ci) 0).set k (.int (b2i v)))))) : gl_W δ A ad (Λ, I, L, gl_u2 B c k v, R) H1 := by
  refine gl_W.set (S := (Λ, I, L, B, R)) (S' := (Λ, I, L, gl_u2 B c k v, R)) hc rfl ?_ ?_ (gl_wf_same hwf rfl rfl) hP hD
  · rw [gl_ce_obj (S := (Λ, I, L, gl_u2 B c k v, R)) hk]
    show Sum.inr (ci, gl_fs ad (I c) (gl_u2 B c k v c) (R c) (gl_ft ci) 0) = _
    rw [gl_u2_eq, gl_fs_set (Ic := I c) (Bc := B c) (Rc := R c) (v := .int (b2i v)) ht]
    · show Value.int (b2i (va_up (B c) k v k)) = _
      rw [gl_up_eq]
    · intro i t' hi
      match t' with
      | 0 => rfl
      | 1 => show Value.int (b2i (va_up (B c) k v i)) = _; rw [gl_up_ne hi]; rfl
      | t' + 2 => rfl
  · intro c' hn
    show gl_cr δ.2 ad (Λ.2 c') (I c') (L c') (gl_u2 B c k v c') (R c') = gl_cr δ.2 ad (Λ.2 c') (I c') (L c') (B c') (R c')
    rw [gl_u2_ne hn]
theorem gl_wf_put {c k : Nat} {r : Option Nat} (hwf : gl_wf (Λ, I, L, B, R)) (hr : ∀ x, r = some x → x < Λ.1) : gl_wf (Λ, I, L, B, gl_u2 R c k r) := by
  intro c' j x hc h
  have h : gl_u2 R c k r c' j = some x := h
  by_cases hn : c' = c
  · subst hn
    rw [gl_u2_eq] at h
    by_cases hj : j = k
    · subst hj
      rw [gl_up_eq] at h
      exact hr x h
    · rw [gl_up_ne hj] at h
      exact hwf c' j x hc h
  · rw [gl_u2_ne hn] at h
    exact hwf c' j x hc h
theorem gl_setR {ad : Nat → Nat} {δ : gl_Del} {A : Nat → Prop} {H1 : Heap} {c ci x k : Nat} {r : Option Nat} (hc : c < Λ.1) (hk : Λ.2 c = (ci + 8, x)) (ht : (gl_ft ci)[k]? = some 2) (hwf : gl_wf (Λ, I, L, B, R)) (hr : ∀ x, r = some x → x < Λ.1)
    (hP : va_P δ.1 vwCl ((gl_stl δ ad (Λ, I, L, B, R)).set c (ad c, .inr (ci, (gl_fs ad (I c) (B c) (R c) (gl_ft ci) 0).set k (va_rf (r.map ad))))) H1) (hD : va_D A ((gl_stl δ ad (Λ, I, L, B, R)).set c (ad c, .inr (ci, (gl_fs ad (I c) (B c) (R c) (gl_ft ci) 0).set k (va_rf (r.map ad)))))) : gl_W δ A ad (Λ, I, L, B, gl_u2 R c k r) H1 := by
  refine gl_W.set (S := (Λ, I, L, B, R)) (S' := (Λ, I, L, B, gl_u2 R c k r)) hc rfl ?_ ?_ (gl_wf_put hwf hr) hP hD
  · rw [gl_ce_obj (S := (Λ, I, L, B, gl_u2 R c k r)) hk]
    show Sum.inr (ci, gl_fs ad (I c) (B c) (gl_u2 R c k r c) (gl_ft ci) 0) = _
    rw [gl_u2_eq, gl_fs_set (Ic := I c) (Bc := B c) (Rc := R c) (v := va_rf (r.map ad)) ht]
    · show va_rf ((va_up (R c) k r k).map ad) = _
      rw [gl_up_eq]
    · intro i t' hi
      match t' with
      | 0 => rfl
      | 1 => rfl
      | t' + 2 => show va_rf ((va_up (R c) k r i).map ad) = _; rw [gl_up_ne hi]; rfl
  · intro c' hn
    show gl_cr δ.2 ad (Λ.2 c') (I c') (L c') (B c') (gl_u2 R c k r c') = gl_cr δ.2 ad (Λ.2 c') (I c') (L c') (B c') (R c')
    rw [gl_u2_ne hn]
theorem gl_fs_lt {ad : Nat → Nat} {Ic : Nat → Int32} {Bc : Nat → Bool} {Rc : Nat → Option Nat} {ci k t : Nat} (ht : (gl_ft ci)[k]? = some t) : k < (gl_fs ad Ic Bc Rc (gl_ft ci) 0).length := by
  rw [gl_fs_len]
  exact (List.getElem?_eq_some_iff.mp ht).1
end RWC
