/-! THE FRAME: a typed store over labels (gl_Sto), the judgement gl_J that hides heap, addresses and locals' array, one row an instruction. -/
set_option maxRecDepth 100000
/-- number of cells, and of each label its kind and length: 0 int[], 1 boolean[], 2 long[], 3 Log[], 4 Slot[], 5 Head[], 6 Watcher[], 7 int[][], 8+ci an object of class ci -/
abbrev gl_Lay : Type := Nat × (Nat → Nat × Nat)
/-- layout, ints, longs, booleans, references (labels): rows by label and place -/
abbrev gl_Sto : Type := gl_Lay × (Nat → Nat → Int32) × (Nat → Nat → Int64) × (Nat → Nat → Bool) × (Nat → Nat → Option Nat)
abbrev gl_Del : Type := va_G × (Nat → ClassId)
def b2i (b : Bool) : Int32 := if b = true then 1 else 0
theorem b2i_t : b2i true = 1 := rfl
theorem b2i_f : b2i false = 0 := rfl
theorem b2i_nar (b : Bool) : vp_nar .boolean (b2i b) = b2i b := by cases b <;> decide
theorem b2i_narrow (b : Bool) : narrow .boolean (.int (b2i b)) = .int (b2i b) := by cases b <;> decide
theorem b2i_fits (b : Bool) : fits .boolean (.int (b2i b)) = true := by cases b <;> decide
theorem b2i_inj {a b : Bool} (h : b2i a = b2i b) : a = b := by revert h; cases a <;> cases b <;> decide
theorem b2i_eq0 {b : Bool} : b2i b = 0 ↔ b = false := by cases b <;> decide
/-- the classes, by number -/
abbrev vwCl : List vw_C := [(RX0, TX0, 8), (RX1, TX1, 8), (RX2, TX2, 11), (RX3, TX3, 1), (RX4, TX4, 7), (RX5, TX5, 8), (RX6, TX6, 2), (RX7, TX7, 5), (RX8, TX8, 9), (RX9, TX9, 66), (RX11, TX11, 7), (RX12, TX12, 7), (RX13, TX13, 5), (RX14, TX14, 7), (RX15, TX15, 8)]
/-- their fields' kinds: 0 int, 1 boolean, 2 a reference -/
def gl_ft : Nat → List Nat
  | 0 => [2, 2, 2, 2, 2, 2, 2, 2]
  | 1 => [2, 2, 2, 2, 2, 2, 0, 0]
  | 2 => [2, 2, 2, 2, 2, 2, 2, 2, 0, 0, 0]
  | 3 => [2]
  | 4 => [2, 2, 2, 0, 0, 0, 1]
  | 5 => [2, 2, 0, 0, 0, 0, 0, 1]
  | 6 => [2, 0]
  | 7 => [2, 2, 2, 0, 0]
  | 8 => [2, 2, 2, 2, 2, 2, 0, 0, 0]
  | 9 => [2, 0, 2, 2, 2, 2, 2, 2, 2, 2, 2, 2, 2, 2, 2, 2, 0, 2, 2, 2, 2, 1, 2, 0, 2, 2, 2, 2, 2, 2, 2, 2, 2, 2, 2, 2, 2, 2, 0, 2, 2, 2, 2, 2, 2, 2, 2, 2, 2, 0, 2, 2, 2, 2, 2, 2, 2, 0, 2, 2, 2, 2, 0, 0, 2, 2]
  | 10 => [0, 0, 0, 0, 2, 2, 2]
  | 11 => [0, 0, 0, 0, 2, 2, 2]
  | 12 => [0, 0, 0, 0, 2]
  | 13 => [0, 0, 0, 0, 2, 0, 0]
  | 14 => [0, 0, 0, 0, 2, 0, 0, 0]
  | _ => []
def gl_fv (ad : Nat → Nat) (Ic : Nat → Int32) (Bc : Nat → Bool) (Rc : Nat → Option Nat) (j : Nat) : Nat → Value
  | 0 => .int (Ic j)
  | 1 => .int (b2i (Bc j))
  | _ => va_rf ((Rc j).map ad)
def gl_fs (ad : Nat → Nat) (Ic : Nat → Int32) (Bc : Nat → Bool) (Rc : Nat → Option Nat) : List Nat → Nat → List Value
  | [], _ => []
  | t :: ts, j => gl_fv ad Ic Bc Rc j t :: gl_fs ad Ic Bc Rc ts (j + 1)
theorem gl_fs_get {ad : Nat → Nat} {Ic : Nat → Int32} {Bc : Nat → Bool} {Rc : Nat → Option Nat} : ∀ (ts : List Nat) (j k : Nat), (gl_fs ad Ic Bc Rc ts j)[k]? = (ts[k]?).map (fun t => gl_fv ad Ic Bc Rc (j + k) t)
  | [], j, k => by simp [gl_fs]
  | t :: ts, j, 0 => by simp [gl_fs]
  | t :: ts, j, k + 1 => by
    rw [gl_fs, List.getElem?_cons_succ, List.getElem?_cons_succ, gl_fs_get ts (j + 1) k]
    rw [show j + 1 + k = j + (k + 1) by omega]
theorem gl_fs_len {ad : Nat → Nat} {Ic : Nat → Int32} {Bc : Nat → Bool} {Rc : Nat → Option Nat} : ∀ (ts : List Nat) (j : Nat), (gl_fs ad Ic Bc Rc ts j).length = ts.length
  | [], j => rfl
  | t :: ts, j => by rw [gl_fs, List.length_cons, List.length_cons, gl_fs_len ts (j + 1)]
theorem gl_fs_set {ad : Nat → Nat} {Ic Ic' : Nat → Int32} {Bc Bc' : Nat → Bool} {Rc Rc' : Nat → Option Nat} {ts : List Nat} {k t : Nat} {v : Value} (ht : ts[k]? = some t) (hv : gl_fv ad Ic' Bc' Rc' k t = v) (ho : ∀ i t', i ≠ k → gl_fv ad Ic' Bc' Rc' i t' = gl_fv ad Ic Bc Rc i t') : gl_fs ad Ic' Bc' Rc' ts 0 = (gl_fs ad Ic Bc Rc ts 0).set k v := by
  refine List.ext_getElem? fun i => ?_
  rw [gl_fs_get, Nat.zero_add]
  by_cases hi : i = k
  · subst hi
    have hl : i < (gl_fs ad Ic Bc Rc ts 0).length := by rw [gl_fs_len]; exact (List.getElem?_eq_some_iff.mp ht).1
    rw [List.getElem?_set_self hl, ht, Option.map_some, hv]
  · rw [List.getElem?_set_ne (Ne.symm hi), gl_fs_get, Nat.zero_add]
    cases ts[i]? with
    | none => rfl
    | some t' => rw [Option.map_some, Option.map_some, ho i t' hi]
/-- a cell out of its kind and rows -/
def gl_cr (dT : Nat → ClassId) (ad : Nat → Nat) (k : Nat × Nat) (Ic : Nat → Int32) (Lc : Nat → Int64) (Bc : Nat → Bool) (Rc : Nat → Option Nat) : va_E := match k.1 with
  | 0 => .inl (dT 0, k.2, .inl Ic)
  | 1 => .inl (dT 1, k.2, .inl (fun j => b2i (Bc j)))
  | 2 => .inl (dT 2, k.2, .inr (.inl Lc))
  | 3 => .inl (dT 3, k.2, .inr (.inr (.inr (.inr (fun j => (Rc j).map ad)))))
  | 4 => .inl (dT 4, k.2, .inr (.inr (.inr (.inr (fun j => (Rc j).map ad)))))
  | 5 => .inl (dT 5, k.2, .inr (.inr (.inr (.inr (fun j => (Rc j).map ad)))))
  | 6 => .inl (dT 6, k.2, .inr (.inr (.inr (.inr (fun j => (Rc j).map ad)))))
  | 7 => .inl (dT 7, k.2, .inr (.inr (.inr (.inr (fun j => (Rc j).map ad)))))
  | n + 8 => .inr (n, gl_fs ad Ic Bc Rc (gl_ft n) 0)
def gl_ce (δ : gl_Del) (ad : Nat → Nat) (S : gl_Sto) (c : Nat) : va_E := gl_cr δ.2 ad (S.1.2 c) (S.2.1 c) (S.2.2.1 c) (S.2.2.2.1 c) (S.2.2.2.2 c)
def gl_stl (δ : gl_Del) (ad : Nat → Nat) (S : gl_Sto) : va_W := (List.range S.1.1).map (fun c => (ad c, gl_ce δ ad S c))
theorem gl_stl_get {δ : gl_Del} {ad : Nat → Nat} {S : gl_Sto} {c : Nat} (h : c < S.1.1) : (gl_stl δ ad S)[c]? = some (ad c, gl_ce δ ad S c) := by simp [gl_stl, h]
theorem gl_stl_inv {δ : gl_Del} {ad : Nat → Nat} {S : gl_Sto} {c : Nat} {q : Nat × va_E} (h : (gl_stl δ ad S)[c]? = some q) : c < S.1.1 ∧ q = (ad c, gl_ce δ ad S c) := by
  have hl : c < S.1.1 := by
    have := (List.getElem?_eq_some_iff.mp h).1
    simpa [gl_stl] using this
  rw [gl_stl_get hl] at h
  exact ⟨hl, (Option.some.inj h).symm⟩
theorem gl_stl_ext {δ : gl_Del} {ad ad' : Nat → Nat} {S S' : gl_Sto} (hN : S'.1.1 = S.1.1) (h : ∀ c, c < S.1.1 → ad' c = ad c ∧ gl_ce δ ad' S' c = gl_ce δ ad S c) : gl_stl δ ad' S' = gl_stl δ ad S := by
  unfold gl_stl
  rw [hN]
  refine List.map_congr_left fun c hc => ?_
  rw [(h c (List.mem_range.mp hc)).1, (h c (List.mem_range.mp hc)).2]
theorem gl_stl_set {δ : gl_Del} {ad : Nat → Nat} {S S' : gl_Sto} {c : Nat} {e : va_E} (h : c < S.1.1) (hN : S'.1.1 = S.1.1) (he : gl_ce δ ad S' c = e) (ho : ∀ c', c' ≠ c → gl_ce δ ad S' c' = gl_ce δ ad S c') : (gl_stl δ ad S).set c (ad c, e) = gl_stl δ ad S' := by
  refine List.ext_getElem? fun i => ?_
  have hl : c < (gl_stl δ ad S).length := by simp [gl_stl, h]
  by_cases hi : i = c
  · subst hi
    rw [List.getElem?_set_self hl, gl_stl_get (S := S') (by rw [hN]; exact h), he]
  · rw [List.getElem?_set_ne (Ne.symm hi)]
    by_cases hb : i < S.1.1
    · rw [gl_stl_get hb, gl_stl_get (S := S') (by rw [hN]; exact hb), ho i hi]
    · rw [List.getElem?_eq_none (by simp [gl_stl]; omega), List.getElem?_eq_none (by simp [gl_stl, hN]; omega)]
/-- references stay within -/
def gl_wf (S : gl_Sto) : Prop := ∀ c j r, c < S.1.1 → S.2.2.2.2 c j = some r → r < S.1.1
theorem gl_fv_ad {ad ad' : Nat → Nat} {Ic : Nat → Int32} {Bc : Nat → Bool} {Rc : Nat → Option Nat} (h : ∀ j r, Rc j = some r → ad' r = ad r) (j t : Nat) : gl_fv ad' Ic Bc Rc j t = gl_fv ad Ic Bc Rc j t := by
  have e : (Rc j).map ad' = (Rc j).map ad := by
    cases hr : Rc j with
    | none => rfl
    | some r => simp [h j r hr]
  match t with
  | 0 => rfl
  | 1 => rfl
  | t + 2 => simp only [gl_fv, e]
theorem gl_fs_ad {ad ad' : Nat → Nat} {Ic : Nat → Int32} {Bc : Nat → Bool} {Rc : Nat → Option Nat} (h : ∀ j r, Rc j = some r → ad' r = ad r) : ∀ (ts : List Nat) (j : Nat), gl_fs ad' Ic Bc Rc ts j = gl_fs ad Ic Bc Rc ts j
  | [], _ => rfl
  | t :: ts, j => by rw [gl_fs, gl_fs, gl_fv_ad h, gl_fs_ad h ts (j + 1)]
theorem gl_cr_ad {dT : Nat → ClassId} {ad ad' : Nat → Nat} {k : Nat × Nat} {Ic : Nat → Int32} {Lc : Nat → Int64} {Bc : Nat → Bool} {Rc : Nat → Option Nat} (h : ∀ j r, Rc j = some r → ad' r = ad r) : gl_cr dT ad' k Ic Lc Bc Rc = gl_cr dT ad k Ic Lc Bc Rc := by
  have e : (fun j => (Rc j).map ad') = (fun j => (Rc j).map ad) := by
    funext j
    cases hr : Rc j with
    | none => rfl
    | some r => simp [h j r hr]
  obtain ⟨k1, k2⟩ := k
  match k1 with
  | 0 => rfl
  | 1 => rfl
  | 2 => rfl
  | 3 => simp only [gl_cr, e]
  | 4 => simp only [gl_cr, e]
  | 5 => simp only [gl_cr, e]
  | 6 => simp only [gl_cr, e]
  | 7 => simp only [gl_cr, e]
  | n + 8 => simp only [gl_cr, gl_fs_ad h]
/-- a symbolic value's machine value -/
def gl_v (ad : Nat → Nat) : Value → Value
  | .ref c => .ref (ad c)
  | v => v
def gl_rv (r : Option Nat) : Value := va_rf r
theorem gl_v_rf (ad : Nat → Nat) (r : Option Nat) : gl_v ad (va_rf r) = va_rf (r.map ad) := by cases r <;> rfl
/-- its label is one of the store's -/
def gl_okv (N : Nat) : Value → Prop
  | .ref c => c < N
  | _ => True
def gl_oks (N : Nat) (st : List Value) : Prop := ∀ v ∈ st, gl_okv N v
def gl_okl (N : Nat) (ls : List (Option Value)) : Prop := ∀ v, some v ∈ ls → gl_okv N v
theorem gl_okv_mono {N M : Nat} (h : N ≤ M) {v : Value} (hv : gl_okv N v) : gl_okv M v := by cases v <;> first | trivial | exact Nat.lt_of_lt_of_le hv h
theorem gl_v_cat (ad : Nat → Nat) (v : Value) : (gl_v ad v).category = v.category := by cases v <;> rfl
theorem gl_v_same {ad ad' : Nat → Nat} {N : Nat} (h : ∀ c, c < N → ad' c = ad c) {v : Value} (hv : gl_okv N v) : gl_v ad' v = gl_v ad v := by
  cases v <;> first | rfl | exact congrArg Value.ref (h _ hv)
theorem gl_sv_same {ad ad' : Nat → Nat} {N : Nat} (h : ∀ c, c < N → ad' c = ad c) {st : List Value} (hv : gl_oks N st) : st.map (gl_v ad') = st.map (gl_v ad) := List.map_congr_left fun v hv' => gl_v_same h (hv v hv')
/-- the locals' pairs, out of a list by place -/
def gl_lp (ad : Nat → Nat) : List (Option Value) → Nat → List (Nat × Value)
  | [], _ => []
  | none :: t, i => gl_lp ad t (i + 1)
  | some v :: t, i => (i, gl_v ad v) :: gl_lp ad t (i + 1)
theorem gl_lp_mem {ad : Nat → Nat} : ∀ (ls : List (Option Value)) (i : Nat) (q : Nat × Value), q ∈ gl_lp ad ls i ↔ ∃ (k : Nat) (v : Value), ls[k]? = some (some v) ∧ q = (i + k, gl_v ad v)
  | [], i, q => by simp [gl_lp]
  | none :: t, i, q => by
    rw [gl_lp, gl_lp_mem t (i + 1) q]
    constructor
    · rintro ⟨k, v, h1, h2⟩
      exact ⟨k + 1, v, by simpa using h1, by rw [h2]; congr 1; omega⟩
    · rintro ⟨k, v, h1, h2⟩
      cases k with
      | zero => simp at h1
      | succ k => exact ⟨k, v, by simpa using h1, by rw [h2]; congr 1; omega⟩
  | some w :: t, i, q => by
    rw [gl_lp, List.mem_cons, gl_lp_mem t (i + 1) q]
    constructor
    · rintro (h | ⟨k, v, h1, h2⟩)
      · exact ⟨0, w, by simp, by simpa using h⟩
      · exact ⟨k + 1, v, by simpa using h1, by rw [h2]; congr 1; omega⟩
    · rintro ⟨k, v, h1, h2⟩
      cases k with
      | zero =>
        left
        simp only [List.getElem?_cons_zero, Option.some.injEq] at h1
        subst h1
        simpa using h2
      | succ k => exact Or.inr ⟨k, v, by simpa using h1, by rw [h2]; congr 1; omega⟩
theorem gl_lp_same {ad ad' : Nat → Nat} {N : Nat} (h : ∀ c, c < N → ad' c = ad c) : ∀ {ls : List (Option Value)} (i : Nat), gl_okl N ls → gl_lp ad' ls i = gl_lp ad ls i
  | [], _, _ => rfl
  | none :: t, i, hk => by
    rw [gl_lp, gl_lp]
    exact gl_lp_same h (i + 1) (fun v hv => hk v (List.mem_cons_of_mem _ hv))
  | some w :: t, i, hk => by
    rw [gl_lp, gl_lp, gl_v_same h (hk w List.mem_cons_self), gl_lp_same h (i + 1) (fun v hv => hk v (List.mem_cons_of_mem _ hv))]
theorem gl_l_at {ad : Nat → Nat} {A : Array Slot} {nL : Nat} {ls : List (Option Value)} (h : lv_has A nL (gl_lp ad ls 0)) {i : Nat} {v : Value} (hi : ls[i]? = some (some v)) : A[i]? = some (.val (gl_v ad v)) := by
  have := h.2.2 (i, gl_v ad v) ((gl_lp_mem ls 0 _).mpr ⟨i, v, hi, by rw [Nat.zero_add]⟩)
  exact this
/-- no long ends at i -/
def gl_lok (ls : List (Option Value)) : Nat → Bool
  | 0 => true
  | i + 1 => match ls[i]? with
    | some (some v) => v.category == 1
    | _ => true
theorem gl_l_set {ad : Nat → Nat} {A : Array Slot} {nL : Nat} {ls : List (Option Value)} {i : Nat} {v : Value} (hl : i < ls.length) (hok : gl_lok ls i = true)
    (h : lv_has A nL ((i, gl_v ad v) :: (gl_lp ad ls 0).filter (fun q => !(q.1 == i) && !(q.1 + 1 == i && q.2.category == 2)))) : lv_has A nL (gl_lp ad (ls.set i (some v)) 0) := by
  refine ⟨h.1, h.2.1, fun q hq => h.2.2 q ?_⟩
  obtain ⟨k, w, h1, h2⟩ := (gl_lp_mem _ _ _).mp hq
  rw [Nat.zero_add] at h2
  by_cases hk : k = i
  · subst hk
    rw [List.getElem?_set_self hl] at h1
    cases h1
    rw [h2]
    exact List.mem_cons_self
  · rw [List.getElem?_set_ne (Ne.symm hk)] at h1
    refine List.mem_cons_of_mem _ (List.mem_filter.mpr ⟨(gl_lp_mem _ _ _).mpr ⟨k, w, h1, by rw [Nat.zero_add]; exact h2⟩, ?_⟩)
    rw [h2]
    simp only [Bool.and_eq_true, Bool.not_eq_true', beq_eq_false_iff_ne, ne_eq, hk, not_false_eq_true, true_and]
    by_cases hk1 : k + 1 = i
    · subst hk1
      have hc : w.category = 1 := by
        have := hok
        simp only [gl_lok, h1, beq_iff_eq] at this
        exact this
      rw [gl_v_cat, hc]
      simp
    · simp [hk1]
theorem gl_okl_set {N : Nat} {ls : List (Option Value)} {i : Nat} {v : Value} (h : gl_okl N ls) (hv : gl_okv N v) : gl_okl N (ls.set i (some v)) := by
  intro w hw
  rcases List.mem_or_eq_of_mem_set hw with h1 | h1
  · exact h w h1
  · cases h1
    exact hv
/-- the words that do not ride in lw_all, and the array classes over classes -/
def gl_isN : Cond → Bool
  | .fieldLinkNest .. => true
  | .methodLinkNest .. => true
  | .castable .. => true
  | .declares .. => true
  | _ => false
def gl_NW (U : State) : Prop := (∀ w ∈ lw_tbl, gl_isN w = true → va_Nw w U) ∧ va_AO RX2 U ∧ va_AO RX3 U ∧ va_AO RX4 U ∧ va_AO RX5 U ∧ (Cond.arrayOver (.array .int)).before #[] U = true
theorem gl_aoA_moved {u U : State} (hvm : u.vm.Alike U.vm) (h : (Cond.arrayOver (.array .int)).before #[] u = true) : (Cond.arrayOver (.array .int)).before #[] U = true := by
  obtain ⟨comp, c, k, h1, h2, h3, h4, h5⟩ := arrayOverA_spec h
  obtain ⟨k', hk', he⟩ := hvm.2.2 _ _ h3
  have hi : (U.vm.classes.findIdx? fun (x : Class) => match x.kind with | .array component _ => component == comp | _ => false) = some c := by
    rw [hvm.findIdx?_eq _ (fun _ => rfl)]
    exact h2
  have hkind : k'.kind = .array comp (.array .int) := by rw [he]; exact h4
  have f1 : U.vm.findClass (FieldType.array .int).toString = some comp := by rw [hvm.findClass]; exact h1
  have f2 : U.vm.findClass ("[" ++ (FieldType.array .int).toString) = some c := by rw [hvm.findClass]; exact h5
  unfold Cond.before Cond.holds
  simp only [Cond.value]
  rw [f1, Option.bind_some]
  refine (congrArg (fun o : Option Nat => (o.bind (fun c => (U.vm.classes[c]?).map fun (k : Class) => match k.kind with | .array _ ty => decide (ty = FieldType.array .int) && decide (U.vm.findClass ("[" ++ (FieldType.array .int).toString) = some c) | _ => false) == some true)) hi).trans ?_
  simp [hk', hkind, f2]
theorem gl_nw_warm {w : Cond} (h : gl_isN w = true) {s U : State} (hW : s.WarmedH U.vm) (hZ : va_Nw w s) : va_Nw w U := by
  cases w with
  | fieldLinkNest a i b n d h => exact va_Nw.warmF hW hZ
  | methodLinkNest a i x h => exact va_Nw.warmM hW hZ
  | castable a b => exact va_Nw.warmC hW hZ
  | declares x => exact va_Nw.warmD hW hZ
  | _ => cases h
theorem gl_nw_tab {w : Cond} (h : gl_isN w = true) : w.onTables = true := by
  cases w <;> first | rfl | cases h
theorem gl_NW.warm {s U : State} (hW : s.WarmedH U.vm) (h : gl_NW s) : gl_NW U :=
  ⟨fun w hw hn => gl_nw_warm hn hW (h.1 w hw hn), h.2.1.moved hW.alike, h.2.2.1.moved hW.alike, h.2.2.2.1.moved hW.alike, h.2.2.2.2.1.moved hW.alike, gl_aoA_moved hW.alike h.2.2.2.2.2⟩
theorem gl_NW.same {s U : State} (hv : s.vm = U.vm) (h : gl_NW s) : gl_NW U :=
  ⟨fun w hw hn => va_Nw.same (gl_nw_tab hn) hv (h.1 w hw hn), h.2.1.moved (hv ▸ Vm.Alike.refl _), h.2.2.1.moved (hv ▸ Vm.Alike.refl _), h.2.2.2.1.moved (hv ▸ Vm.Alike.refl _), h.2.2.2.2.1.moved (hv ▸ Vm.Alike.refl _), gl_aoA_moved (hv ▸ Vm.Alike.refl _) h.2.2.2.2.2⟩
/-- the array classes, by kind -/
abbrev gl_tys (dT : Nat → ClassId) : List (ClassId × FieldType) := [(dT 0, .int), (dT 1, .boolean), (dT 2, .long), (dT 3, .object RX2), (dT 4, .object RX3), (dT 5, .object RX4), (dT 6, .object RX5), (dT 7, .array .int)]
/-- int[][]: its class's component is int[] -/
def gl_GA (dT : Nat → ClassId) (U : State) : Prop := ∃ kA kI : Class, U.vm.classes[dT 7]? = some kA ∧ kA.kind = .array (dT 0) (.array .int) ∧ U.vm.classes[dT 0]? = some kI
theorem gl_GA.moved {dT : Nat → ClassId} {u U : State} (hvm : u.vm.Alike U.vm) (h : gl_GA dT u) : gl_GA dT U := by
  obtain ⟨kA, kI, h1, h2, h3⟩ := h
  obtain ⟨k', hk', he⟩ := hvm.2.2 _ _ h1
  obtain ⟨k2, hk2, he2⟩ := hvm.2.2 _ _ h3
  exact ⟨k', k2, hk', by rw [he]; exact h2, hk2⟩
/-- what every method knows of the tables -/
def gl_EV (δ : gl_Del) (U : State) : Prop := va_K δ.1 vwCl (gl_tys δ.2) U ∧ gl_NW U ∧ gl_GA δ.2 U ∧ va_Nc RX13 RX11 U ∧ va_Nc RX14 RX11 U ∧ va_Nc RX15 RX11 U
theorem gl_EV.warm {δ : gl_Del} {s U : State} (hW : s.WarmedH U.vm) (h : gl_EV δ s) : gl_EV δ U :=
  ⟨va_K.moved hW.alike h.1, h.2.1.warm hW, h.2.2.1.moved hW.alike, h.2.2.2.1.moved hW.alike, h.2.2.2.2.1.moved hW.alike, h.2.2.2.2.2.moved hW.alike⟩
theorem gl_EV.same {δ : gl_Del} {s U : State} (hv : s.vm = U.vm) (h : gl_EV δ s) : gl_EV δ U :=
  ⟨va_K.moved (hv ▸ Vm.Alike.refl _) h.1, h.2.1.same hv, h.2.2.1.moved (hv ▸ Vm.Alike.refl _), h.2.2.2.1.moved (hv ▸ Vm.Alike.refl _), h.2.2.2.2.1.moved (hv ▸ Vm.Alike.refl _), h.2.2.2.2.2.moved (hv ▸ Vm.Alike.refl _)⟩
/-- the world -/
def gl_W (δ : gl_Del) (A : Nat → Prop) (ad : Nat → Nat) (S : gl_Sto) (H : Heap) : Prop := va_P δ.1 vwCl (gl_stl δ ad S) H ∧ va_D A (gl_stl δ ad S) ∧ gl_wf S
/-- a method's frame: program, launch, environment, room, start, method, arguments, frames below, its record, its code; the end; the cells it may write; the classes' numbers; its locals -/
abbrev gl_Kap : Type := (Program × Launch × Env × Room × State × MethodId × Array Value × List Frame × Method × Code) × (State → Prop) × (Nat → Prop) × gl_Del × Nat × Nat × (Nat → Nat)
abbrev gl_s (κ : gl_Kap) : State := κ.1.2.2.2.2.1
abbrev gl_m (κ : gl_Kap) : MethodId := κ.1.2.2.2.2.2.1
abbrev gl_a (κ : gl_Kap) : Array Value := κ.1.2.2.2.2.2.2.1
abbrev gl_be (κ : gl_Kap) : List Frame := κ.1.2.2.2.2.2.2.2.1
abbrev gl_me (κ : gl_Kap) : Method := κ.1.2.2.2.2.2.2.2.2.1
abbrev gl_c (κ : gl_Kap) : Code := κ.1.2.2.2.2.2.2.2.2.2
abbrev gl_Q (κ : gl_Kap) : State → Prop := κ.2.1
abbrev gl_A (κ : gl_Kap) : Nat → Prop := κ.2.2.1
abbrev gl_d (κ : gl_Kap) : gl_Del := κ.2.2.2.1
abbrev gl_nL (κ : gl_Kap) : Nat := κ.2.2.2.2.1
abbrev gl_N0 (κ : gl_Kap) : Nat := κ.2.2.2.2.2.1
abbrev gl_ad0 (κ : gl_Kap) : Nat → Nat := κ.2.2.2.2.2.2
abbrev gl_R (κ : gl_Kap) : Room := κ.1.2.2.2.1
abbrev gl_WW (κ : gl_Kap) (H : Heap) (locs : List Loc) (nc ns : Nat) (g : JFrame) : Prop := W κ.1.1 κ.1.2.1 κ.1.2.2.1 κ.1.2.2.2.1 κ.1.2.2.2.2.1 κ.1.2.2.2.2.2.1 κ.1.2.2.2.2.2.2.1 κ.1.2.2.2.2.2.2.2.1 κ.1.2.2.2.2.2.2.2.2.1 κ.1.2.2.2.2.2.2.2.2.2 H locs nc ns κ.2.1 g
/-- since the start labels keep their addresses -/
def gl_X (κ : gl_Kap) (ad : Nat → Nat) (S : gl_Sto) : Prop := (∀ c, c < gl_N0 κ → ad c = gl_ad0 κ c) ∧ gl_N0 κ ≤ S.1.1
/-- THE JUDGEMENT: at pc, with locals ls, stack st (labels for references), store S, nc cells and ns slots made: the machine comes to the method's end -/
def gl_J (κ : gl_Kap) (nc ns : Nat) (S : gl_Sto) (pc : Nat) (ls : List (Option Value)) (st : List Value) : Prop :=
  ∀ (ad : Nat → Nat) (H : Heap) (locs : List Loc) (la : Array Slot), gl_W (gl_d κ) (gl_A κ) ad S H → va_S (gl_A κ) (gl_s κ).heap H locs → gl_X κ ad S → gl_okl S.1.1 ls → gl_oks S.1.1 st → lv_has la (gl_nL κ) (gl_lp ad ls 0) →
    gl_WW κ H locs nc ns (F0 (gl_m κ) pc la (st.map (gl_v ad)))
/-- what a method's frame stands on: its class, its code, its room, its answer's type -/
def gl_Cx (κ : gl_Kap) (own : String) (cc : ByteArray) (rm : Room) (ret : Option FieldType) : Prop :=
  κ.1.1.tables.exec = Jvm.exec ∧ (gl_c κ).code = cc ∧ (gl_c κ).maxLocals = gl_nL κ ∧ (gl_s κ).vm.findClass own = some (gl_m κ).cls ∧ (∀ w ∈ lw_all, w.before (gl_a κ) (gl_s κ) = true) ∧ gl_EV (gl_d κ) (gl_s κ) ∧ (∀ q, (gl_s κ).heap.size ≤ q → gl_A κ q) ∧ gl_R κ = rm ∧ (gl_me κ).sig.returnType = ret ∧ (gl_me κ).locks = false
section RWS
variable {κ : gl_Kap} {own : String} {cc : ByteArray} {rm : Room} {ret : Option FieldType} {nc ns pc : Nat} {S : gl_Sto} {ls : List (Option Value)} {st : List Value}
theorem gl_Cx.ex (C : gl_Cx κ own cc rm ret) : κ.1.1.tables.exec = Jvm.exec := C.1
theorem gl_Cx.bt (C : gl_Cx κ own cc rm ret) : (gl_c κ).code = cc := C.2.1
theorem gl_Cx.ml (C : gl_Cx κ own cc rm ret) : (gl_c κ).maxLocals = gl_nL κ := C.2.2.1
theorem gl_Cx.ow (C : gl_Cx κ own cc rm ret) : (gl_s κ).vm.findClass own = some (gl_m κ).cls := C.2.2.2.1
theorem gl_Cx.ts (C : gl_Cx κ own cc rm ret) : ∀ w ∈ lw_all, w.before (gl_a κ) (gl_s κ) = true := C.2.2.2.2.1
theorem gl_Cx.ev (C : gl_Cx κ own cc rm ret) : gl_EV (gl_d κ) (gl_s κ) := C.2.2.2.2.2.1
theorem gl_Cx.K (C : gl_Cx κ own cc rm ret) : va_K (gl_d κ).1 vwCl (gl_tys (gl_d κ).2) (gl_s κ) := C.2.2.2.2.2.1.1
theorem gl_Cx.nw (C : gl_Cx κ own cc rm ret) {w : Cond} (h : w ∈ lw_tbl) (hn : gl_isN w = true) : va_Nw w (gl_s κ) := C.ev.2.1.1 w h hn
theorem gl_Cx.hA (C : gl_Cx κ own cc rm ret) : ∀ q, (gl_s κ).heap.size ≤ q → gl_A κ q := C.2.2.2.2.2.2.1
theorem gl_Cx.ro (C : gl_Cx κ own cc rm ret) : gl_R κ = rm := C.2.2.2.2.2.2.2.1
theorem gl_Cx.rt (C : gl_Cx κ own cc rm ret) : (gl_me κ).sig.returnType = ret := C.2.2.2.2.2.2.2.2.1
theorem gl_Cx.lk (C : gl_Cx κ own cc rm ret) : (gl_me κ).locks = false := C.2.2.2.2.2.2.2.2.2
theorem gl_ok1 {N : Nat} {v : Value} {st : List Value} (h : gl_oks N (v :: st)) : gl_oks N st := fun w hw => h w (List.mem_cons_of_mem _ hw)
theorem gl_ok2 {N : Nat} {v w : Value} {st : List Value} (h : gl_oks N (v :: w :: st)) : gl_oks N st := gl_ok1 (gl_ok1 h)
theorem gl_ok3 {N : Nat} {v w x : Value} {st : List Value} (h : gl_oks N (v :: w :: x :: st)) : gl_oks N st := gl_ok1 (gl_ok2 h)
theorem gl_oki {N : Nat} {x : Int32} {st : List Value} (h : gl_oks N st) : gl_oks N (.int x :: st) := fun w hw => by
  rcases List.mem_cons.mp hw with rfl | hw
  · trivial
  · exact h w hw
theorem gl_okj {N : Nat} {x : Int64} {st : List Value} (h : gl_oks N st) : gl_oks N (.long x :: st) := fun w hw => by
  rcases List.mem_cons.mp hw with rfl | hw
  · trivial
  · exact h w hw
theorem gl_okc {N : Nat} {x : Value} {st : List Value} (hx : gl_okv N x) (h : gl_oks N st) : gl_oks N (x :: st) := fun w hw => by
  rcases List.mem_cons.mp hw with rfl | hw
  · exact hx
  · exact h w hw
theorem gl_okh {N : Nat} {x : Value} {st : List Value} (h : gl_oks N (x :: st)) : gl_okv N x := h x List.mem_cons_self
-- constants
theorem j_iconst (C : gl_Cx κ own cc rm ret) {n : Int} {v : Int32} (d : decode cc pc = .ok (.iconst n, 1)) (hv : Int32.ofInt n = v) (n' : Nat) (hn : pc + 1 = n') (k : gl_J κ nc ns S n' ls (.int v :: st)) : gl_J κ nc ns S pc ls st := by
  subst hn
  intro ad H locs la hW hS hX ho hs hl
  exact lv_iconst C.ex C.bt d hv (k ad H locs la hW hS hX ho (gl_oki hs) hl)
theorem j_bipush (C : gl_Cx κ own cc rm ret) {n : Int} {v : Int32} (d : decode cc pc = .ok (.bipush n, 2)) (hv : (Int8.ofInt n).toInt32 = v) (n' : Nat) (hn : pc + 2 = n') (k : gl_J κ nc ns S n' ls (.int v :: st)) : gl_J κ nc ns S pc ls st := by
  subst hn
  intro ad H locs la hW hS hX ho hs hl
  exact lv_bipush C.ex C.bt d hv (k ad H locs la hW hS hX ho (gl_oki hs) hl)
theorem j_sipush (C : gl_Cx κ own cc rm ret) {n : Int} {v : Int32} (d : decode cc pc = .ok (.sipush n, 3)) (hv : (Int16.ofInt n).toInt32 = v) (n' : Nat) (hn : pc + 3 = n') (k : gl_J κ nc ns S n' ls (.int v :: st)) : gl_J κ nc ns S pc ls st := by
  subst hn
  intro ad H locs la hW hS hX ho hs hl
  exact lv_sipush C.ex C.bt d hv (k ad H locs la hW hS hX ho (gl_oki hs) hl)
theorem j_lconst (C : gl_Cx κ own cc rm ret) {n : Fin 2} {v : Int64} (d : decode cc pc = .ok (.lconst n, 1)) (hv : Int64.ofNat (n : Nat) = v) (n' : Nat) (hn : pc + 1 = n') (k : gl_J κ nc ns S n' ls (.long v :: st)) : gl_J κ nc ns S pc ls st := by
  subst hn
  intro ad H locs la hW hS hX ho hs hl
  exact lv_lconst C.ex C.bt d hv (k ad H locs la hW hS hX ho (gl_okj hs) hl)
theorem j_ldc (C : gl_Cx κ own cc rm ret) {index : Nat} {v : Int32} (q : Jvm.Cond.constant own index v ∈ lw_all) (d : decode cc pc = .ok (.ldc index, 2)) (n' : Nat) (hn : pc + 2 = n') (k : gl_J κ nc ns S n' ls (.int v :: st)) : gl_J κ nc ns S pc ls st := by
  subst hn
  intro ad H locs la hW hS hX ho hs hl
  exact lv_ldc C.ex C.bt C.ow (C.ts _ q) d (k ad H locs la hW hS hX ho (gl_oki hs) hl)
theorem j_ldc2 (C : gl_Cx κ own cc rm ret) {index : Nat} {v : Int64} (q : Jvm.Cond.constantLong own index v ∈ lw_all) (d : decode cc pc = .ok (.ldc2_w index, 3)) (n' : Nat) (hn : pc + 3 = n') (k : gl_J κ nc ns S n' ls (.long v :: st)) : gl_J κ nc ns S pc ls st := by
  subst hn
  intro ad H locs la hW hS hX ho hs hl
  exact lv_ldc2 C.ex C.bt C.ow (C.ts _ q) d (k ad H locs la hW hS hX ho (gl_okj hs) hl)
theorem j_null (C : gl_Cx κ own cc rm ret) (d : decode cc pc = .ok (.aconst_null, 1)) (n' : Nat) (hn : pc + 1 = n') (k : gl_J κ nc ns S n' ls (.null :: st)) : gl_J κ nc ns S pc ls st := by
  subst hn
  intro ad H locs la hW hS hX ho hs hl
  exact lv_null C.ex C.bt d (k ad H locs la hW hS hX ho (gl_okc trivial hs) hl)
-- locals
theorem j_iload_n (C : gl_Cx κ own cc rm ret) {i : Fin 4} {x : Int32} (d : decode cc pc = .ok (.iload_n i, 1)) (h : ls[(i : Nat)]? = some (some (.int x))) (n' : Nat) (hn : pc + 1 = n') (k : gl_J κ nc ns S n' ls (.int x :: st)) : gl_J κ nc ns S pc ls st := by
  subst hn
  intro ad H locs la hW hS hX ho hs hl
  exact lv_iload_n C.ex C.bt d rfl (gl_l_at hl h) (k ad H locs la hW hS hX ho (gl_oki hs) hl)
theorem j_iload (C : gl_Cx κ own cc rm ret) {i : Nat} {x : Int32} (d : decode cc pc = .ok (.iload i, 2)) (h : ls[i]? = some (some (.int x))) (n' : Nat) (hn : pc + 2 = n') (k : gl_J κ nc ns S n' ls (.int x :: st)) : gl_J κ nc ns S pc ls st := by
  subst hn
  intro ad H locs la hW hS hX ho hs hl
  exact lv_iload C.ex C.bt d (gl_l_at hl h) (k ad H locs la hW hS hX ho (gl_oki hs) hl)
theorem j_lload_n (C : gl_Cx κ own cc rm ret) {i : Fin 4} {x : Int64} (d : decode cc pc = .ok (.lload_n i, 1)) (h : ls[(i : Nat)]? = some (some (.long x))) (n' : Nat) (hn : pc + 1 = n') (k : gl_J κ nc ns S n' ls (.long x :: st)) : gl_J κ nc ns S pc ls st := by
  subst hn
  intro ad H locs la hW hS hX ho hs hl
  exact lv_lload_n C.ex C.bt d rfl (gl_l_at hl h) (k ad H locs la hW hS hX ho (gl_okj hs) hl)
theorem j_lload (C : gl_Cx κ own cc rm ret) {i : Nat} {x : Int64} (d : decode cc pc = .ok (.lload i, 2)) (h : ls[i]? = some (some (.long x))) (n' : Nat) (hn : pc + 2 = n') (k : gl_J κ nc ns S n' ls (.long x :: st)) : gl_J κ nc ns S pc ls st := by
  subst hn
  intro ad H locs la hW hS hX ho hs hl
  exact lv_lload C.ex C.bt d (gl_l_at hl h) (k ad H locs la hW hS hX ho (gl_okj hs) hl)
theorem gl_okl_at {N i : Nat} {v : Value} {ls : List (Option Value)} (h : gl_okl N ls) (hi : ls[i]? = some (some v)) : gl_okv N v := h v (List.mem_of_getElem? hi)
theorem j_aload_n (C : gl_Cx κ own cc rm ret) {i : Fin 4} {x : Nat} (d : decode cc pc = .ok (.aload_n i, 1)) (h : ls[(i : Nat)]? = some (some (.ref x))) (n' : Nat) (hn : pc + 1 = n') (k : gl_J κ nc ns S n' ls (.ref x :: st)) : gl_J κ nc ns S pc ls st := by
  subst hn
  intro ad H locs la hW hS hX ho hs hl
  exact lv_aload_n C.ex C.bt d rfl (gl_l_at hl h) (k ad H locs la hW hS hX ho (gl_okc (gl_okl_at ho h) hs) hl)
theorem j_aload (C : gl_Cx κ own cc rm ret) {i : Nat} {x : Nat} (d : decode cc pc = .ok (.aload i, 2)) (h : ls[i]? = some (some (.ref x))) (n' : Nat) (hn : pc + 2 = n') (k : gl_J κ nc ns S n' ls (.ref x :: st)) : gl_J κ nc ns S pc ls st := by
  subst hn
  intro ad H locs la hW hS hX ho hs hl
  exact lv_aload C.ex C.bt d (gl_l_at hl h) (k ad H locs la hW hS hX ho (gl_okc (gl_okl_at ho h) hs) hl)
theorem j_aload_nN (C : gl_Cx κ own cc rm ret) {i : Fin 4} (d : decode cc pc = .ok (.aload_n i, 1)) (h : ls[(i : Nat)]? = some (some .null)) (n' : Nat) (hn : pc + 1 = n') (k : gl_J κ nc ns S n' ls (.null :: st)) : gl_J κ nc ns S pc ls st := by
  subst hn
  intro ad H locs la hW hS hX ho hs hl
  exact lv_aload_nN C.ex C.bt d rfl (gl_l_at hl h) (k ad H locs la hW hS hX ho (gl_okc trivial hs) hl)
theorem j_aloadN (C : gl_Cx κ own cc rm ret) {i : Nat} (d : decode cc pc = .ok (.aload i, 2)) (h : ls[i]? = some (some .null)) (n' : Nat) (hn : pc + 2 = n') (k : gl_J κ nc ns S n' ls (.null :: st)) : gl_J κ nc ns S pc ls st := by
  subst hn
  intro ad H locs la hW hS hX ho hs hl
  exact lv_aloadN C.ex C.bt d (gl_l_at hl h) (k ad H locs la hW hS hX ho (gl_okc trivial hs) hl)
theorem j_istore_n (C : gl_Cx κ own cc rm ret) {i : Fin 4} {x : Int32} (d : decode cc pc = .ok (.istore_n i, 1)) (hi : (i : Nat) < ls.length) (hL : (i : Nat) < gl_nL κ) (hk : gl_lok ls i = true) (n' : Nat) (hn : pc + 1 = n') (k : gl_J κ nc ns S n' (ls.set i (some (.int x))) st) : gl_J κ nc ns S pc ls (.int x :: st) := by
  subst hn
  intro ad H locs la hW hS hX ho hs hl
  exact lv_istore_n C.ex C.bt d rfl hl hL rfl (fun la' h' => k ad H locs la' hW hS hX (gl_okl_set ho trivial) (gl_ok1 hs) (gl_l_set (v := .int x) hi hk h'))
theorem j_istore (C : gl_Cx κ own cc rm ret) {i : Nat} {x : Int32} (d : decode cc pc = .ok (.istore i, 2)) (hi : i < ls.length) (hL : i < gl_nL κ) (hk : gl_lok ls i = true) (n' : Nat) (hn : pc + 2 = n') (k : gl_J κ nc ns S n' (ls.set i (some (.int x))) st) : gl_J κ nc ns S pc ls (.int x :: st) := by
  subst hn
  intro ad H locs la hW hS hX ho hs hl
  exact lv_istore C.ex C.bt d hl hL rfl (fun la' h' => k ad H locs la' hW hS hX (gl_okl_set ho trivial) (gl_ok1 hs) (gl_l_set (v := .int x) hi hk h'))
theorem j_astore_n (C : gl_Cx κ own cc rm ret) {i : Fin 4} {x : Nat} (d : decode cc pc = .ok (.astore_n i, 1)) (hi : (i : Nat) < ls.length) (hL : (i : Nat) < gl_nL κ) (hk : gl_lok ls i = true) (n' : Nat) (hn : pc + 1 = n') (k : gl_J κ nc ns S n' (ls.set i (some (.ref x))) st) : gl_J κ nc ns S pc ls (.ref x :: st) := by
  subst hn
  intro ad H locs la hW hS hX ho hs hl
  exact lv_astore_n C.ex C.bt d rfl hl hL rfl (fun la' h' => k ad H locs la' hW hS hX (gl_okl_set ho (gl_okh hs)) (gl_ok1 hs) (gl_l_set (v := .ref x) hi hk h'))
theorem j_astore (C : gl_Cx κ own cc rm ret) {i : Nat} {x : Nat} (d : decode cc pc = .ok (.astore i, 2)) (hi : i < ls.length) (hL : i < gl_nL κ) (hk : gl_lok ls i = true) (n' : Nat) (hn : pc + 2 = n') (k : gl_J κ nc ns S n' (ls.set i (some (.ref x))) st) : gl_J κ nc ns S pc ls (.ref x :: st) := by
  subst hn
  intro ad H locs la hW hS hX ho hs hl
  exact lv_astore C.ex C.bt d hl hL rfl (fun la' h' => k ad H locs la' hW hS hX (gl_okl_set ho (gl_okh hs)) (gl_ok1 hs) (gl_l_set (v := .ref x) hi hk h'))
theorem j_astore_nN (C : gl_Cx κ own cc rm ret) {i : Fin 4} (d : decode cc pc = .ok (.astore_n i, 1)) (hi : (i : Nat) < ls.length) (hL : (i : Nat) < gl_nL κ) (hk : gl_lok ls i = true) (n' : Nat) (hn : pc + 1 = n') (k : gl_J κ nc ns S n' (ls.set i (some .null)) st) : gl_J κ nc ns S pc ls (.null :: st) := by
  subst hn
  intro ad H locs la hW hS hX ho hs hl
  exact lv_astore_nN C.ex C.bt d rfl hl hL rfl (fun la' h' => k ad H locs la' hW hS hX (gl_okl_set ho trivial) (gl_ok1 hs) (gl_l_set (v := .null) hi hk h'))
theorem j_iinc (C : gl_Cx κ own cc rm ret) {i : Nat} {n : Int} {x v : Int32} (d : decode cc pc = .ok (.iinc i n, 3)) (h : ls[i]? = some (some (.int x))) (hv : x + Int32.ofInt n = v) (hL : i < gl_nL κ) (hk : gl_lok ls i = true) (n' : Nat) (hn : pc + 3 = n') (k : gl_J κ nc ns S n' (ls.set i (some (.int v))) st) : gl_J κ nc ns S pc ls st := by
  subst hn
  intro ad H locs la hW hS hX ho hs hl
  obtain ⟨kk, hkk⟩ := List.getElem?_of_mem ((gl_lp_mem (ad := ad) ls 0 (i, .int x)).mpr ⟨i, .int x, h, by rw [Nat.zero_add]; rfl⟩)
  exact lv_iinc (k := kk) C.ex C.bt d hl hkk hv hL rfl (fun la' h' => k ad H locs la' hW hS hX (gl_okl_set ho trivial) hs (gl_l_set (v := .int v) (List.getElem?_eq_some_iff.mp h).1 hk h'))
end RWS
