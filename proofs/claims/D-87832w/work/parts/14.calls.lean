/-! rows of the frame: contracts, entry, returns, calls -/
set_option maxRecDepth 100000
def gl_rm (h mc ms : Nat) : Room := { frames := h, cells := mc, slots := ms, locals := 60 * h }
/-- the world behind a call: labels keep their addresses -/
def gl_B (δ : gl_Del) (A : Nat → Prop) (N0 : Nat) (ad0 : Nat → Nat) (u : gl_Sto × (Nat → Nat)) (t : State) : Prop := (∀ c, c < N0 → u.2 c = ad0 c) ∧ N0 ≤ u.1.1.1 ∧ gl_W δ A u.2 u.1 t.heap
def gl_Pc (δ : gl_Del) (ad : Nat → Nat) (args : List Value) (S : gl_Sto) (sz : Nat) : Array Value → State → Prop := va_Pc (args.map (gl_v ad)) (fun U => U.heap.size = sz ∧ gl_W δ (fun _ => True) ad S U.heap ∧ gl_EV δ U)
abbrev gl_QT : Type := (gl_Sto × (Nat → Nat) → State → Prop) → (Nat → Prop) → Array Value → State → Outcome → State → Prop
def gl_Qv (post : gl_Sto → Prop) : gl_QT := fun B A => va_Qv (fun u => post u.1) B A
def gl_Qi (post : Int32 → gl_Sto → Prop) : gl_QT := fun B A => va_Qi (fun r u => post r u.1) B A
def gl_Qr (post : Option Nat → gl_Sto → Prop) : gl_QT := fun B A => va_Qq (fun r u => ∃ o : Option Nat, r = o.map u.2 ∧ (∀ x, o = some x → x < u.1.1.1) ∧ post o u.1) B A
/-- A CONTRACT: from any heap that holds the store S, with these arguments (labels for references) -/
def gl_Ct (l : Launch) (δ : gl_Del) (y : MethodName) (ws : List Cond) (rm : Room) (mc ms : Nat) (args : List Value) (S : gl_Sto) (Qk : gl_QT) : Prop :=
  ∀ (ad : Nat → Nat) (sz : Nat), gl_oks S.1.1 args → Met l y ws rm (gl_Pc δ ad args S sz) (Qk (gl_B δ (va_A (gl_stl δ ad S) sz) S.1.1 ad) (va_A (gl_stl δ ad S) sz)) mc ms (va_A (gl_stl δ ad S) sz)
def gl_QQ (κ : gl_Kap) (Qk : gl_QT) (mc ms : Nat) : Prop := gl_Q κ = MQ (gl_be κ) (Qk (gl_B (gl_d κ) (gl_A κ) (gl_N0 κ) (gl_ad0 κ)) (gl_A κ)) (gl_a κ) (gl_s κ) mc ms (gl_A κ)
/-- the locals at a method's entry -/
def gl_en : List Value → List (Option Value)
  | [] => []
  | v :: t => if v.category = 2 then some v :: none :: gl_en t else some v :: gl_en t
theorem gl_lp_none (ad : Nat → Nat) : ∀ (k i : Nat), gl_lp ad (List.replicate k none) i = []
  | 0, _ => rfl
  | k + 1, i => by rw [List.replicate_succ, gl_lp, gl_lp_none ad k (i + 1)]
theorem gl_lp_en (ad : Nat → Nat) (k : Nat) : ∀ (vs : List Value) (i : Nat), gl_lp ad (gl_en vs ++ List.replicate k none) i = lv_args i (vs.map (gl_v ad))
  | [], i => by rw [gl_en, List.nil_append, gl_lp_none]; rfl
  | v :: t, i => by
    rw [gl_en, List.map_cons, lv_args, gl_v_cat]
    by_cases h : v.category = 2
    · rw [if_pos h, if_pos h, List.cons_append, List.cons_append, gl_lp, gl_lp, gl_lp_en ad k t (i + 1 + 1)]
    · rw [if_neg h, if_neg h, List.cons_append, gl_lp, gl_lp_en ad k t (i + 1)]
theorem gl_en_len (ad : Nat → Nat) : ∀ (vs : List Value), (lg_sl (vs.map (gl_v ad))).length = (gl_en vs).length
  | [] => rfl
  | v :: t => by
    have e := gl_en_len ad t
    rw [lg_sl, List.map_cons, List.flatMap_cons, List.length_append, gl_v_cat, gl_en]
    rw [lg_sl] at e
    rw [e]
    by_cases h : v.category = 2
    · simp [h]; omega
    · simp [h]; omega
theorem gl_okl_en {N : Nat} (k : Nat) : ∀ {vs : List Value}, gl_oks N vs → gl_okl N (gl_en vs ++ List.replicate k none)
  | [], _ => fun w hw => by simp [gl_en] at hw
  | v :: t, h => by
    intro w hw
    have ih := gl_okl_en (N := N) k (vs := t) (gl_ok1 h)
    rw [gl_en] at hw
    by_cases hc : v.category = 2
    · rw [if_pos hc, List.cons_append, List.cons_append] at hw
      rcases List.mem_cons.mp hw with e | hw
      · cases e; exact gl_okh h
      · rcases List.mem_cons.mp hw with e | hw
        · cases e
        · exact ih w hw
    · rw [if_neg hc, List.cons_append] at hw
      rcases List.mem_cons.mp hw with e | hw
      · cases e; exact gl_okh h
      · exact ih w hw
/-- a contract out of a walk from pc 0 -/
theorem gl_of {l : Launch} {δ : gl_Del} {y : MethodName} {cc : ByteArray} {nL mc ms : Nat} {ret : Option FieldType} {rm : Room} {args : List Value} {S : gl_Sto} {Qk : gl_QT} {ls0 : List (Option Value)}
    (hy : plainName y.cls = true) (hlen : (gl_en args).length ≤ nL) (hls : gl_en args ++ List.replicate (nL - (gl_en args).length) none = ls0)
    (h : ∀ κ : gl_Kap, gl_Cx κ y.cls cc rm ret → gl_QQ κ Qk mc ms → κ.1.2.1 = l → gl_d κ = δ → gl_nL κ = nL → (gl_me κ).name = y.name → gl_J κ 0 0 S 0 ls0 []) : gl_Ct l δ y (ws_ y cc nL ret) rm mc ms args S Qk := by
  intro ad sz hoks
  refine Met.ofW (cc := cc) (maxL := nL) (ret := ret) hy rfl ?_
  intro p e s m av below meth c s₁ B hml hv
  obtain ⟨rfl, hsz, hW, hEV⟩ := hv
  have hx := B.exec
  have hb := B.bytes
  have hr := B.returns
  have hts0 := atoms_spec (ws := ws_ y cc nL ret) B.pre
  have hts : ∀ w ∈ lw_all, w.before _ s = true := fun w h => hts0 w (List.mem_cons_of_mem _ h)
  have hown : s.vm.findClass y.cls = some m.cls := findClass_of_methodNamed B.named
  have hlocks := B.notSynchronized
  have hin : meth.name = y.name := (name_of_methodNamed B.named B.method).1
  subst hsz
  have hl := lv_entry (args.map (gl_v ad)) (n := nL) (by rw [gl_en_len]; exact hlen)
  rw [lg_entry_eq]
  rw [← gl_lp_en ad (nL - (gl_en args).length) args 0, hls] at hl
  exact h ((p, l, e, rm, s, m, (args.map (gl_v ad)).toArray, below, meth, c), MQ below (Qk (gl_B δ (va_A (gl_stl δ ad S) s.heap.size) S.1.1 ad) (va_A (gl_stl δ ad S) s.heap.size)) (args.map (gl_v ad)).toArray s mc ms (va_A (gl_stl δ ad S) s.heap.size), va_A (gl_stl δ ad S) s.heap.size, δ, nL, S.1.1, ad) ⟨hx, hb, hml, hown, hts, hEV, fun q hq => Or.inr hq, rfl, hr, hlocks⟩ rfl rfl rfl rfl hin ad s.heap [] _
    ⟨hW.1, hW.2.1.self, hW.2.2⟩ va_S.rf ⟨fun _ _ => rfl, Nat.le_refl _⟩ (by rw [← hls]; exact gl_okl_en _ hoks) (fun v hv => by cases hv) hl
section RWR
variable {κ : gl_Kap} {own : String} {cc : ByteArray} {rm : Room} {ret : Option FieldType} {nc ns pc mc ms : Nat} {S : gl_Sto} {ls : List (Option Value)} {st : List Value}
theorem j_ret (C : gl_Cx κ own cc rm none) {post : gl_Sto → Prop} (hQ : gl_QQ κ (gl_Qv post) mc ms) (hp : post S) (h1 : nc ≤ mc) (h2 : ns ≤ ms) (d : decode cc pc = .ok (.return_, 1)) : gl_J κ nc ns S pc ls [] := by
  intro ad H locs la hW hS hX ho hs hl
  refine W.widen h1 h2 ?_
  rw [show κ.2.1 = _ from hQ]
  exact W.vret C.ex C.bt C.rt (fun t ht hw => ⟨⟨(S, ad), rfl, hp, hX.1, hX.2, by rw [ht]; exact hW⟩, hS.F ht⟩) hS.2.2 d C.lk
theorem j_iret (C : gl_Cx κ own cc rm (some .int)) {post : Int32 → gl_Sto → Prop} {v : Int32} (hQ : gl_QQ κ (gl_Qi post) mc ms) (hp : post v S) (h1 : nc ≤ mc) (h2 : ns ≤ ms) (d : decode cc pc = .ok (.ireturn, 1)) : gl_J κ nc ns S pc ls [.int v] := by
  intro ad H locs la hW hS hX ho hs hl
  refine W.widen h1 h2 ?_
  rw [show κ.2.1 = _ from hQ]
  exact W.iret C.ex C.bt C.rt (fun t ht hw => ⟨⟨v, (S, ad), rfl, hp, hX.1, hX.2, by rw [ht]; exact hW⟩, hS.F ht⟩) hS.2.2 d C.lk
theorem j_zret (C : gl_Cx κ own cc rm (some .boolean)) {post : Int32 → gl_Sto → Prop} {v : Bool} (hQ : gl_QQ κ (gl_Qi post) mc ms) (hp : post (b2i v) S) (h1 : nc ≤ mc) (h2 : ns ≤ ms) (d : decode cc pc = .ok (.ireturn, 1)) : gl_J κ nc ns S pc ls [.int (b2i v)] := by
  intro ad H locs la hW hS hX ho hs hl
  refine W.widen h1 h2 ?_
  rw [show κ.2.1 = _ from hQ]
  exact W.zret (v := b2i v) C.ex C.bt C.rt (b2i_narrow v) (fun t ht hw => ⟨⟨b2i v, (S, ad), rfl, hp, hX.1, hX.2, by rw [ht]; exact hW⟩, hS.F ht⟩) hS.2.2 d C.lk
theorem j_aret {rt : FieldType} (C : gl_Cx κ own cc rm (some rt)) (hrt : (∃ n, rt = .object n) ∨ ∃ t, rt = .array t) {post : Option Nat → gl_Sto → Prop} {v : Nat} (hQ : gl_QQ κ (gl_Qr post) mc ms) (hp : post (some v) S) (h1 : nc ≤ mc) (h2 : ns ≤ ms) (d : decode cc pc = .ok (.areturn, 1)) : gl_J κ nc ns S pc ls [.ref v] := by
  intro ad H locs la hW hS hX ho hs hl
  refine W.widen h1 h2 ?_
  rw [show κ.2.1 = _ from hQ]
  exact W.aret (v := .ref (ad v)) C.ex C.bt C.rt hrt (Or.inr ⟨_, rfl⟩) (fun t ht hw => ⟨⟨some (ad v), (S, ad), rfl, ⟨some v, rfl, fun x hx => by cases hx; exact gl_okh hs, hp⟩, hX.1, hX.2, by rw [ht]; exact hW⟩, hS.F ht⟩) hS.2.2 d C.lk
theorem j_aretN {rt : FieldType} (C : gl_Cx κ own cc rm (some rt)) (hrt : (∃ n, rt = .object n) ∨ ∃ t, rt = .array t) {post : Option Nat → gl_Sto → Prop} (hQ : gl_QQ κ (gl_Qr post) mc ms) (hp : post none S) (h1 : nc ≤ mc) (h2 : ns ≤ ms) (d : decode cc pc = .ok (.areturn, 1)) : gl_J κ nc ns S pc ls [.null] := by
  intro ad H locs la hW hS hX ho hs hl
  refine W.widen h1 h2 ?_
  rw [show κ.2.1 = _ from hQ]
  exact W.aret (v := .null) C.ex C.bt C.rt hrt (Or.inl rfl) (fun t ht hw => ⟨⟨none, (S, ad), rfl, ⟨none, rfl, fun x hx => absurd hx (by simp), hp⟩, hX.1, hX.2, by rw [ht]; exact hW⟩, hS.F ht⟩) hS.2.2 d C.lk
theorem j_widen {k n : Nat} (h1 : nc ≤ k) (h2 : ns ≤ n) (kk : gl_J κ k n S pc ls st) : gl_J κ nc ns S pc ls st := fun ad H locs la hW hS hX ho hs hl => W.widen h1 h2 (kk ad H locs la hW hS hX ho hs hl)
/-- a call, made -/
def gl_Run (κ : gl_Kap) (nc ns : Nat) (S : gl_Sto) (pc : Nat) (ls : List (Option Value)) (st0 rest : List Value) (mc ms : Nat) (Qk : gl_QT) : Prop :=
  ∀ (ad : Nat → Nat) (H : Heap) (locs : List Loc) (la : Array Slot), gl_W (gl_d κ) (gl_A κ) ad S H → gl_oks S.1.1 st0 → lv_has la (gl_nL κ) (gl_lp ad ls 0) →
    gl_oks S.1.1 rest ∧ ∃ a : Array Value, va_Run κ.1.1 κ.1.2.1 κ.1.2.2.1 κ.1.2.2.2.1 κ.1.2.2.2.2.1 κ.1.2.2.2.2.2.1 κ.1.2.2.2.2.2.2.1 κ.1.2.2.2.2.2.2.2.1 κ.1.2.2.2.2.2.2.2.2.1 κ.1.2.2.2.2.2.2.2.2.2 H locs nc ns mc ms (F0 (gl_m κ) pc la (st0.map (gl_v ad))) (rest.map (gl_v ad)) (Qk (gl_B (gl_d κ) (va_A (gl_stl (gl_d κ) ad S) H.size) S.1.1 ad) (va_A (gl_stl (gl_d κ) ad S) H.size) a) (va_A (gl_stl (gl_d κ) ad S) H.size)
theorem gl_freeA (C : gl_Cx κ own cc rm ret) {ad : Nat → Nat} {H : Heap} {locs : List Loc} (hW : gl_W (gl_d κ) (gl_A κ) ad S H) (hS : va_S (gl_A κ) (gl_s κ).heap H locs) : ∀ q, va_A (gl_stl (gl_d κ) ad S) H.size q → gl_A κ q := by
  intro q h
  rcases h with ⟨k, e, h⟩ | h
  · exact hW.2.1.2 k (q, e) h
  · exact C.hA q (Nat.le_trans hS.1 h)
theorem gl_X_next {ad : Nat → Nat} {u : gl_Sto × (Nat → Nat)} (hX : gl_X κ ad S) (h1 : ∀ c, c < S.1.1 → u.2 c = ad c) (h2 : S.1.1 ≤ u.1.1.1) : gl_X κ u.2 u.1 := ⟨fun c hc => (h1 c (Nat.lt_of_lt_of_le hc hX.2)).trans (hX.1 c hc), Nat.le_trans hX.2 h2⟩
theorem gl_okl_mono {N M : Nat} (h : N ≤ M) (ho : gl_okl N ls) : gl_okl M ls := fun v hv => gl_okv_mono h (ho v hv)
theorem gl_oks_mono {N M : Nat} (h : N ≤ M) (ho : gl_oks N st) : gl_oks M st := fun v hv => gl_okv_mono h (ho v hv)
theorem j_cv (C : gl_Cx κ own cc rm ret) {st0 : List Value} {post : gl_Sto → Prop} (hr : gl_Run κ nc ns S pc ls st0 st mc ms (gl_Qv post)) (n' : Nat) (hn : pc + 3 = n') (k : ∀ S' : gl_Sto, post S' → gl_J κ (nc + mc) (ns + ms) S' n' ls st) : gl_J κ nc ns S pc ls st0 := by
  subst hn
  intro ad H locs la hW hS hX ho hs hl
  obtain ⟨hre, a, run⟩ := hr ad H locs la hW hs hl
  refine va_callv run hS (fun q _ h => gl_freeA C hW hS q h) (fun q h => gl_freeA C hW hS q h) (fun u t H1 locs1 ht hvm hpost hB hsz hkeep hS1 => ?_)
  obtain ⟨b1, b2, b3⟩ := hB
  rw [ht] at b3
  rw [← gl_sv_same b1 hre]
  exact k u.1 hpost u.2 H1 locs1 la ⟨b3.1, b3.2.1.weaken (fun _ q _ h => gl_freeA C hW hS q.1 h), b3.2.2⟩ hS1 (gl_X_next hX b1 b2) (gl_okl_mono b2 ho) (gl_oks_mono b2 hre) (by rw [gl_lp_same b1 0 ho]; exact hl)
theorem j_ci (C : gl_Cx κ own cc rm ret) {st0 : List Value} {post : Int32 → gl_Sto → Prop} (hr : gl_Run κ nc ns S pc ls st0 st mc ms (gl_Qi post)) (n' : Nat) (hn : pc + 3 = n') (k : ∀ (r : Int32) (S' : gl_Sto), post r S' → gl_J κ (nc + mc) (ns + ms) S' n' ls (.int r :: st)) : gl_J κ nc ns S pc ls st0 := by
  subst hn
  intro ad H locs la hW hS hX ho hs hl
  obtain ⟨hre, a, run⟩ := hr ad H locs la hW hs hl
  refine va_calli run hS (fun q _ h => gl_freeA C hW hS q h) (fun q h => gl_freeA C hW hS q h) (fun r u t H1 locs1 ht hvm hpost hB hsz hkeep hS1 => ?_)
  obtain ⟨b1, b2, b3⟩ := hB
  rw [ht] at b3
  rw [← gl_sv_same b1 hre]
  exact k r u.1 hpost u.2 H1 locs1 la ⟨b3.1, b3.2.1.weaken (fun _ q _ h => gl_freeA C hW hS q.1 h), b3.2.2⟩ hS1 (gl_X_next hX b1 b2) (gl_okl_mono b2 ho) (gl_oki (gl_oks_mono b2 hre)) (by rw [gl_lp_same b1 0 ho]; exact hl)
theorem j_cr (C : gl_Cx κ own cc rm ret) {st0 : List Value} {post : Option Nat → gl_Sto → Prop} (hr : gl_Run κ nc ns S pc ls st0 st mc ms (gl_Qr post)) (n' : Nat) (hn : pc + 3 = n') (k : ∀ (r : Option Nat) (S' : gl_Sto), post r S' → gl_J κ (nc + mc) (ns + ms) S' n' ls (va_rf r :: st)) : gl_J κ nc ns S pc ls st0 := by
  subst hn
  intro ad H locs la hW hS hX ho hs hl
  obtain ⟨hre, a, run⟩ := hr ad H locs la hW hs hl
  refine va_callq run hS (fun q _ h => gl_freeA C hW hS q h) (fun q h => gl_freeA C hW hS q h) (fun r u t H1 locs1 ht hvm hpost hB hsz hkeep hS1 => ?_)
  obtain ⟨b1, b2, b3⟩ := hB
  obtain ⟨o, rfl, p1, p2⟩ := hpost
  rw [ht] at b3
  rw [← gl_sv_same b1 hre, ← gl_v_rf]
  exact k o u.1 p2 u.2 H1 locs1 la ⟨b3.1, b3.2.1.weaken (fun _ q _ h => gl_freeA C hW hS q.1 h), b3.2.2⟩ hS1 (gl_X_next hX b1 b2) (gl_okl_mono b2 ho) (gl_okc (by cases o with | none => trivial | some x => exact p1 x rfl) (gl_oks_mono b2 hre)) (by rw [gl_lp_same b1 0 ho]; exact hl)
theorem gl_cat_map (ad : Nat → Nat) (st : List Value) : ((st.map (gl_v ad)).map fun v => v.category) = st.map fun v => v.category := by
  rw [List.map_map]
  exact List.map_congr_left fun v _ => gl_v_cat ad v
theorem gl_W.any {δ : gl_Del} {A : Nat → Prop} {ad : Nat → Nat} {H : Heap} (h : gl_W δ A ad S H) : gl_W δ (fun _ => True) ad S H := ⟨h.1, h.2.1.weaken (fun _ _ _ _ => trivial), h.2.2⟩
theorem gl_blind {δ : gl_Del} {ad : Nat → Nat} {args : List Value} {sz : Nat} : FrameBlind (gl_Pc δ ad args S sz) := by
  intro a U g mk q
  obtain ⟨q0, q1, q2, q3⟩ := q
  exact ⟨q0, q1, q2, gl_EV.same (s := U) (U := U.calling g mk a) rfl q3⟩
theorem gl_pre (C : gl_Cx κ own cc rm ret) {ad : Nat → Nat} {H : Heap} {args : List Value} (hW : gl_W (gl_d κ) (gl_A κ) ad S H) (U : State) (hU : U.heap = H) (hw : (gl_s κ).WarmedH U.vm) : gl_Pc (gl_d κ) ad args S H.size (args.map (gl_v ad)).toArray U := ⟨rfl, by rw [hU], by rw [hU]; exact hW.any, C.ev.warm hw⟩
theorem gl_oks_app {N : Nat} {a b : List Value} (h : gl_oks N (a ++ b)) : gl_oks N a ∧ gl_oks N b := ⟨fun v hv => h v (List.mem_append_left _ hv), fun v hv => h v (List.mem_append_right _ hv)⟩
theorem gl_oks_rev {N : Nat} {a : List Value} (h : gl_oks N a.reverse) : gl_oks N a := fun v hv => h v (List.mem_reverse.mpr hv)
theorem gl_st_rev {ad : Nat → Nat} {As rest : List Value} : (As.reverse ++ rest).map (gl_v ad) = (As.map (gl_v ad)).reverse ++ rest.map (gl_v ad) := by rw [List.map_append, List.map_reverse]
end RWR
section RWX
variable {κ : gl_Kap} {own : String} {cc : ByteArray} {ret ret' : Option FieldType} {nc ns pc mc ms h h' M Ms n maxL index : Nat} {S : gl_Sto} {ls : List (Option Value)} {st0 rest As : List Value} {Qk : gl_QT} {y : MethodName} {bytes : ByteArray} {b : Nat}
theorem gl_roomR (C : gl_Cx κ own cc (gl_rm h' M Ms) ret') (hh : h + 1 ≤ h') (hL : maxL ≤ 41) : (gl_rm h mc ms).frames + 1 ≤ (gl_R κ).frames ∧ 8 + (maxL + 11) + (gl_rm h mc ms).locals ≤ (gl_R κ).locals := by
  rw [C.ro]
  exact ⟨hh, by show 8 + (maxL + 11) + 60 * h ≤ 60 * h'; omega⟩
theorem gl_roomC (C : gl_Cx κ own cc (gl_rm h' M Ms) ret') (h1 : nc + mc ≤ M) (h2 : ns + ms ≤ Ms) : nc + mc ≤ (gl_R κ).cells ∧ ns + ms ≤ (gl_R κ).slots := by
  rw [C.ro]
  exact ⟨h1, h2⟩
theorem gl_runV (C : gl_Cx κ own cc (gl_rm h' M Ms) ret') {Cn : String} {T : u_T} {Nf ci x : Nat} (hM : gl_Ct κ.1.2.1 (gl_d κ) y (ws_ y bytes maxL ret) (gl_rm h mc ms) mc ms (.ref b :: As) S Qk) (q : GoodIn lw_all (wsV own index Cn y (ws_ y bytes maxL ret)))
    (hd : y.cls = Cn ∧ y.cls ≠ "java/lang/invoke/MethodHandle" ∧ y.cls ≠ "java/lang/invoke/VarHandle" ∧ (parseMethodDescriptor y.desc).map (fun d => d.parameters.length) = some n) (hL : maxL ≤ 41) (hcl : vwCl[ci]? = some (Cn, T, Nf)) (hn : As.length = n) (hk : S.1.2 b = (ci + 8, x)) (hh : h + 1 ≤ h') (h1 : nc + mc ≤ M) (h2 : ns + ms ≤ Ms)
    (hst : st0 = As.reverse ++ .ref b :: rest) (hr : (rest.map fun v => v.category).sum ≤ 8) (d : decode cc pc = .ok (.invokevirtual index, 3)) : gl_Run κ nc ns S pc ls st0 rest mc ms Qk := by
  intro ad H locs la hW hs hl
  subst hst
  have o1 := gl_oks_app hs
  refine ⟨gl_ok1 o1.2, _, va_runV (As := As.map (gl_v ad)) (b := ad b) ⟨C.ex, C.bt, C.ml, C.ow, C.ts⟩ (hM ad H.size (gl_okc (gl_okh o1.2) (gl_oks_rev o1.1))) (cwV n C.ts q rfl rfl rfl hd (gl_roomR C hh hL)) ⟨gl_blind, va_recv C.K hW.1 hcl (gl_obj_at (gl_okh o1.2) hk), fun U hU hw => gl_pre C hW U hU hw⟩ rfl (by rw [List.length_map]; exact hn) hl.1 gl_st_rev (lv_room (by rw [gl_cat_map]; exact hr)) d (gl_roomC C h1 h2)⟩
theorem gl_runVN (C : gl_Cx κ own cc (gl_rm h' M Ms) ret') {Cn host : String} {T : u_T} {Nf ci x : Nat} (hM : gl_Ct κ.1.2.1 (gl_d κ) y (ws_ y bytes maxL ret) (gl_rm h mc ms) mc ms (.ref b :: As) S Qk) (q1 : Cond.code y bytes maxL ret ∈ lw_all) (q2 : Cond.methodLinkNest own index y host ∈ lw_tbl) (q3 : Cond.initialized y.cls ∈ lw_all) (q4 : Cond.instanceMethod y ∈ lw_all) (q5 : Cond.selects Cn y y ∈ lw_all)
    (hd : y.cls ≠ "java/lang/invoke/MethodHandle" ∧ y.cls ≠ "java/lang/invoke/VarHandle" ∧ (parseMethodDescriptor y.desc).map (fun d => d.parameters.length) = some n) (hL : maxL ≤ 41) (hcl : vwCl[ci]? = some (Cn, T, Nf)) (hn : As.length = n) (hk : S.1.2 b = (ci + 8, x)) (hh : h + 1 ≤ h') (h1 : nc + mc ≤ M) (h2 : ns + ms ≤ Ms)
    (hst : st0 = As.reverse ++ .ref b :: rest) (hr : (rest.map fun v => v.category).sum ≤ 8) (d : decode cc pc = .ok (.invokevirtual index, 3)) : gl_Run κ nc ns S pc ls st0 rest mc ms Qk := by
  intro ad H locs la hW hs hl
  subst hst
  have o1 := gl_oks_app hs
  refine ⟨gl_ok1 o1.2, _, va_runVN (As := As.map (gl_v ad)) (b := ad b) ⟨C.ex, C.bt, C.ml, C.ow, C.ts⟩ (hM ad H.size (gl_okc (gl_okh o1.2) (gl_oks_rev o1.1))) ⟨va_cnB n C.ts (lw_meth q1) rfl rfl rfl (C.nw q2 rfl) (C.ts _ q3) hd (gl_roomR C hh hL), C.ts _ q4, C.ts _ q5⟩ ⟨gl_blind, va_recv C.K hW.1 hcl (gl_obj_at (gl_okh o1.2) hk), fun U hU hw => gl_pre C hW U hU hw⟩ rfl (by rw [List.length_map]; exact hn) hl.1 gl_st_rev (lv_room (by rw [gl_cat_map]; exact hr)) d (gl_roomC C h1 h2)⟩
theorem gl_runS (C : gl_Cx κ own cc (gl_rm h' M Ms) ret') (hM : gl_Ct κ.1.2.1 (gl_d κ) y (ws_ y bytes maxL ret) (gl_rm h mc ms) mc ms As S Qk) (q : GoodIn lw_all (va_wsS own index y (ws_ y bytes maxL ret)))
    (hd : y.cls ≠ "java/lang/invoke/MethodHandle" ∧ y.cls ≠ "java/lang/invoke/VarHandle" ∧ (parseMethodDescriptor y.desc).map (fun d => d.parameters.length) = some n) (hL : maxL ≤ 41) (hn : As.length = n) (hh : h + 1 ≤ h') (h1 : nc + mc ≤ M) (h2 : ns + ms ≤ Ms)
    (hst : st0 = As.reverse ++ rest) (hr : (rest.map fun v => v.category).sum ≤ 8) (d : decode cc pc = .ok (.invokestatic index, 3)) : gl_Run κ nc ns S pc ls st0 rest mc ms Qk := by
  intro ad H locs la hW hs hl
  subst hst
  have o1 := gl_oks_app hs
  refine ⟨o1.2, _, va_runS (As := As.map (gl_v ad)) ⟨C.ex, C.bt, C.ml, C.ow, C.ts⟩ (hM ad H.size (gl_oks_rev o1.1)) (va_cwS n C.ts q rfl rfl rfl hd (gl_roomR C hh hL)) ⟨gl_blind, fun U hU hw => gl_pre C hW U hU hw⟩ rfl (by rw [List.length_map]; exact hn) hl.1 gl_st_rev (lv_room (by rw [gl_cat_map]; exact hr)) d (gl_roomC C h1 h2)⟩
theorem gl_runSN (C : gl_Cx κ own cc (gl_rm h' M Ms) ret') {host : String} (hM : gl_Ct κ.1.2.1 (gl_d κ) y (ws_ y bytes maxL ret) (gl_rm h mc ms) mc ms As S Qk) (q1 : Cond.code y bytes maxL ret ∈ lw_all) (q2 : Cond.methodLinkNest own index y host ∈ lw_tbl) (q3 : Cond.initialized y.cls ∈ lw_all) (q4 : Cond.static y ∈ lw_all)
    (hd : y.cls ≠ "java/lang/invoke/MethodHandle" ∧ y.cls ≠ "java/lang/invoke/VarHandle" ∧ (parseMethodDescriptor y.desc).map (fun d => d.parameters.length) = some n) (hL : maxL ≤ 41) (hn : As.length = n) (hh : h + 1 ≤ h') (h1 : nc + mc ≤ M) (h2 : ns + ms ≤ Ms)
    (hst : st0 = As.reverse ++ rest) (hr : (rest.map fun v => v.category).sum ≤ 8) (d : decode cc pc = .ok (.invokestatic index, 3)) : gl_Run κ nc ns S pc ls st0 rest mc ms Qk := by
  intro ad H locs la hW hs hl
  subst hst
  have o1 := gl_oks_app hs
  refine ⟨o1.2, _, va_runSN (As := As.map (gl_v ad)) ⟨C.ex, C.bt, C.ml, C.ow, C.ts⟩ (hM ad H.size (gl_oks_rev o1.1)) ⟨va_cnB n C.ts (lw_meth q1) rfl rfl rfl (C.nw q2 rfl) (C.ts _ q3) hd (gl_roomR C hh hL), C.ts _ q4, trivial⟩ ⟨gl_blind, fun U hU hw => gl_pre C hW U hU hw⟩ rfl (by rw [List.length_map]; exact hn) hl.1 gl_st_rev (lv_room (by rw [gl_cat_map]; exact hr)) d (gl_roomC C h1 h2)⟩
theorem gl_runI (C : gl_Cx κ own cc (gl_rm h' M Ms) ret') (hM : gl_Ct κ.1.2.1 (gl_d κ) y (ws_ y bytes maxL none) (gl_rm h mc ms) mc ms (.ref b :: As) S Qk) (q1 : Cond.code y bytes maxL none ∈ lw_all) (q2 : Cond.methodLink own index y ∈ lw_all) (q3 : Cond.initialized y.cls ∈ lw_all) (q4 : Cond.instanceMethod y ∈ lw_all) (hy : y.name = "<init>")
    (hd : y.cls ≠ "java/lang/invoke/MethodHandle" ∧ y.cls ≠ "java/lang/invoke/VarHandle" ∧ (parseMethodDescriptor y.desc).map (fun d => d.parameters.length) = some n) (hL : maxL ≤ 41) (hn : As.length = n) (hh : h + 1 ≤ h') (h1 : nc + mc ≤ M) (h2 : ns + ms ≤ Ms)
    (hst : st0 = As.reverse ++ .ref b :: rest) (hr : (rest.map fun v => v.category).sum ≤ 8) (d : decode cc pc = .ok (.invokespecial index, 3)) : gl_Run κ nc ns S pc ls st0 rest mc ms Qk := by
  intro ad H locs la hW hs hl
  subst hst
  have o1 := gl_oks_app hs
  refine ⟨gl_ok1 o1.2, _, va_runI (As := As.map (gl_v ad)) (b := ad b) ⟨C.ex, C.bt, C.ml, C.ow, C.ts⟩ (hM ad H.size (gl_okc (gl_okh o1.2) (gl_oks_rev o1.1))) (cwI n C.ts (lw_meth q1) rfl rfl rfl (C.ts _ q3) (C.ts _ q2) (C.ts _ q4) hy hd (gl_roomR C hh hL)) ⟨gl_blind, fun U hU hw => gl_pre C hW U hU hw⟩ rfl (by rw [List.length_map]; exact hn) hl.1 gl_st_rev (lv_room (by rw [gl_cat_map]; exact hr)) d (gl_roomC C h1 h2)⟩
theorem gl_runIN (C : gl_Cx κ own cc (gl_rm h' M Ms) ret') {host : String} (hM : gl_Ct κ.1.2.1 (gl_d κ) y (ws_ y bytes maxL none) (gl_rm h mc ms) mc ms (.ref b :: As) S Qk) (q1 : Cond.code y bytes maxL none ∈ lw_all) (q2 : Cond.methodLinkNest own index y host ∈ lw_tbl) (q3 : Cond.initialized y.cls ∈ lw_all) (q4 : Cond.instanceMethod y ∈ lw_all) (hy : y.name = "<init>")
    (hd : y.cls ≠ "java/lang/invoke/MethodHandle" ∧ y.cls ≠ "java/lang/invoke/VarHandle" ∧ (parseMethodDescriptor y.desc).map (fun d => d.parameters.length) = some n) (hL : maxL ≤ 41) (hn : As.length = n) (hh : h + 1 ≤ h') (h1 : nc + mc ≤ M) (h2 : ns + ms ≤ Ms)
    (hst : st0 = As.reverse ++ .ref b :: rest) (hr : (rest.map fun v => v.category).sum ≤ 8) (d : decode cc pc = .ok (.invokespecial index, 3)) : gl_Run κ nc ns S pc ls st0 rest mc ms Qk := by
  intro ad H locs la hW hs hl
  subst hst
  have o1 := gl_oks_app hs
  refine ⟨gl_ok1 o1.2, _, va_runIN (As := As.map (gl_v ad)) (b := ad b) ⟨C.ex, C.bt, C.ml, C.ow, C.ts⟩ (hM ad H.size (gl_okc (gl_okh o1.2) (gl_oks_rev o1.1))) ⟨va_cnB n C.ts (lw_meth q1) rfl rfl rfl (C.nw q2 rfl) (C.ts _ q3) hd (gl_roomR C hh hL), hy, C.ts _ q4⟩ ⟨gl_blind, fun U hU hw => gl_pre C hW U hU hw⟩ rfl (by rw [List.length_map]; exact hn) hl.1 gl_st_rev (lv_room (by rw [gl_cat_map]; exact hr)) d (gl_roomC C h1 h2)⟩
theorem gl_runU (C : gl_Cx κ own cc (gl_rm h' M Ms) ret') {Cn owner : String} {x : MethodName} {T : u_T} {Nf ci xx : Nat} (hM : gl_Ct κ.1.2.1 (gl_d κ) y (ws_ y bytes maxL ret) (gl_rm h mc ms) mc ms (.ref b :: As) S Qk)
    (hcu : va_CU (gl_R κ) (gl_s κ) (gl_a κ) own Cn owner index x y bytes maxL ret (ws_ y bytes maxL ret) (gl_rm h mc ms) mc ms n) (hcl : vwCl[ci]? = some (Cn, T, Nf)) (hn : As.length = n) (hk : S.1.2 b = (ci + 8, xx)) (h1 : nc + mc ≤ M) (h2 : ns + ms ≤ Ms)
    (hst : st0 = As.reverse ++ .ref b :: rest) (hr : (rest.map fun v => v.category).sum ≤ 8) (d : decode cc pc = .ok (.invokevirtual index, 3)) : gl_Run κ nc ns S pc ls st0 rest mc ms Qk := by
  intro ad H locs la hW hs hl
  subst hst
  have o1 := gl_oks_app hs
  refine ⟨gl_ok1 o1.2, _, va_runU (As := As.map (gl_v ad)) (b := ad b) ⟨C.ex, C.bt, C.ml, C.ow, C.ts⟩ (hM ad H.size (gl_okc (gl_okh o1.2) (gl_oks_rev o1.1))) hcu ⟨gl_blind, va_recv C.K hW.1 hcl (gl_obj_at (gl_okh o1.2) hk), fun U hU hw => gl_pre C hW U hU hw⟩ rfl (by rw [List.length_map]; exact hn) hl.1 gl_st_rev (lv_room (by rw [gl_cat_map]; exact hr)) d (gl_roomC C h1 h2)⟩
theorem j_objInit (C : gl_Cx κ own cc (gl_rm h' M Ms) ret') {b : Nat} (q1 : Cond.methodLink own index Lib.objectInit ∈ lw_all) (q2 : Cond.instanceMethod Lib.objectInit ∈ lw_all) (q3 : Cond.code Lib.objectInit ⟨#[0xb1]⟩ 1 none ∈ lw_all) (hh : 1 ≤ h') (hr : (rest.map fun v => v.category).sum ≤ 8) (d : decode cc pc = .ok (.invokespecial index, 3)) (n' : Nat) (hn : pc + 3 = n') (k : gl_J κ nc ns S n' ls rest) : gl_J κ nc ns S pc ls (.ref b :: rest) := by
  subst hn
  intro ad H locs la hW hS hX ho hs hl
  have e : gl_R κ = gl_rm h' M Ms := C.ro
  refine W.objInit C.ex C.bt C.ow (C.ts _ q1) (C.ts _ q2) (C.ts _ q3) rfl (by rw [C.ml]; exact hl.1) rfl d (by rw [show κ.1.2.2.2.1 = _ from e]; exact hh) ?_ (k ad H locs la hW hS hX ho (gl_ok1 hs) hl)
  rw [show κ.1.2.2.2.1 = _ from e]
  have := lv_room (m := gl_m κ) (pc := pc) (ls := la) (rest := []) (st := rest.map (gl_v ad)) (by rw [gl_cat_map]; exact hr)
  show _ ≤ 60 * h'
  have h3 : 2 * (F0 (gl_m κ) pc la (List.map (gl_v ad) (Value.ref b :: rest))).monitorRoom + ((rest.map (gl_v ad)).map fun v => v.category).sum ≤ 8 := this
  omega
end RWX
