/-! rows of the frame: a call with a stack of up to twelve words below its arguments (by gen86a.py) -/
set_option maxRecDepth 100000
section VAR12
variable {p : Program} {l : Launch} {e : Env} {R : Room} {s : State} {m : MethodId} {args : Array Value} {below : List Frame} {meth : Method} {c : Code} {H : Heap} {locs : List Loc} {cells slots : Nat} {Q : State → Prop}
variable {y : MethodName} {bytes cc : ByteArray} {maxL nL mc ms n index : Nat} {ret : Option FieldType} {ws : List Cond} {rm : Room} {Pc : Array Value → State → Prop} {Qc : Array Value → State → Outcome → State → Prop} {free : Addr → Prop} {Ts : List Cond} {own C : String} {b : Addr} {As rest : List Value} {g : JFrame}
theorem gl_vrun12 (S : CallFix p m c cc nL s args Ts own) (hM : Met l y ws rm Pc Qc mc ms free) (hrc : rm.cells = mc) (hrs : rm.slots = ms) (hfr : rm.frames + 1 ≤ R.frames) (hlo : 12 + (maxL + 11) + rm.locals ≤ R.locals) (hws : ∀ w ∈ ws, ∀ (a' : Array Value) (U : State), s.WarmedH U.vm → w.before a' U = true) (hcw : Cond.code y bytes maxL ret ∈ ws)
    (hcode : (Cond.code y bytes maxL ret).before args s = true) (hini : (Cond.initialized y.cls).before args s = true) (hy : y.cls ≠ "java/lang/invoke/MethodHandle" ∧ y.cls ≠ "java/lang/invoke/VarHandle") (hlen : ∀ sig, parseMethodDescriptor y.desc = some sig → n = sig.parameters.length) (hl : (Cond.methodLink own index y).before args s = true) (hin : (Cond.instanceMethod y).before args s = true) (hse : (Cond.selects C y y).before args s = true) (hp : PreV s H C b Pc As)
    (hg : g.method = m) (hn : As.length = n) (hsize : g.locals.size = nL) (hstack : g.stack = As.reverse ++ .ref b :: rest) (hW : 2 * g.monitorRoom + (rest.map fun v => v.category).sum ≤ 12) (hdg : decode cc g.pc = .ok (.invokevirtual index, 3)) (hf : cells + mc ≤ R.cells ∧ slots + ms ≤ R.slots) :
    va_Run p l e R s m args below meth c H locs cells slots mc ms g rest (Qc (Value.ref b :: As).toArray) (free) := by
  have hK : Back l R p e below s args y 3 12 (PreOf R mc ms Pc) (PostOf Qc mc ms free) := back_of (bytes := bytes) (maxL := maxL) (ret := ret) hM hp.1 hrc hrs hfr hlo hws hcw (fun a' U hW => word_at hW (Or.inl (by first | rfl | simp [Cond.onTables, Cond.keeps, Cond.steady])) hini)
  obtain ⟨hx, hb, hml, ho, -⟩ := S
  obtain ⟨-, ⟨cellB, hcB, hoB, hclB⟩, hPc⟩ := hp
  intro T hT X
  obtain ⟨v, vm₁, ⟨U', l2, c2, s2⟩, hW₁, X', ⟨g', mk, t, L, e1, e2, hq, h1, hL, h2, h3⟩, st⟩ := callV X hx (C := C) (bytes := bytes) (maxL := maxL) (ret := ret) ho hl hin hse hcode hy hK (by rw [hT]; exact hcB) hoB hclB hg (hsize.trans hml.symm) (argsL := As) (rest := rest) (fun sig h => hn.trans (hlen sig h)) hstack hW (by rw [hb]; exact hdg)
    (fun vm₁ hW₁ => ⟨hf.1, hf.2, hPc (T.setVm vm₁) hT hW₁⟩)
  dsimp only [Pt.U, Pt.locs, Pt.cells, Pt.slots] at X' e1 e2 h1 h2 h3 st
  subst h1; subst h2; subst h3
  exact ⟨v, (T.setVm vm₁).calling g' mk (Value.ref b :: As).toArray, t, U', L, hT, X', hL, e1, e2, hq, st⟩
end VAR12
section RW12
variable {κ : gl_Kap} {own : String} {cc : ByteArray} {ret ret' : Option FieldType} {nc ns pc mc ms h h' M Ms n maxL index : Nat} {S : gl_Sto} {ls : List (Option Value)} {st0 rest As : List Value} {Qk : gl_QT} {y : MethodName} {bytes : ByteArray} {b : Nat}
theorem gl_runV12 (C : gl_Cx κ own cc (gl_rm h' M Ms) ret') {Cn : String} {T : u_T} {Nf ci x : Nat} (hM : gl_Ct κ.1.2.1 (gl_d κ) y (ws_ y bytes maxL ret) (gl_rm h mc ms) mc ms (.ref b :: As) S Qk) (ql : Cond.methodLink own index y ∈ lw_all) (qn : Cond.instanceMethod y ∈ lw_all) (qe : Cond.selects Cn y y ∈ lw_all) (qi : Cond.initialized y.cls ∈ lw_all) (q1 : Cond.code y bytes maxL ret ∈ lw_all)
    (hd : y.cls ≠ "java/lang/invoke/MethodHandle" ∧ y.cls ≠ "java/lang/invoke/VarHandle" ∧ (parseMethodDescriptor y.desc).map (fun d => d.parameters.length) = some n) (hL : maxL ≤ 37) (hcl : vwCl[ci]? = some (Cn, T, Nf)) (hn : As.length = n) (hk : S.1.2 b = (ci + 8, x)) (hh : h + 1 ≤ h') (h1 : nc + mc ≤ M) (h2 : ns + ms ≤ Ms)
    (hst : st0 = As.reverse ++ .ref b :: rest) (hr : (rest.map fun v => v.category).sum ≤ 12) (d : decode cc pc = .ok (.invokevirtual index, 3)) : gl_Run κ nc ns S pc ls st0 rest mc ms Qk := by
  intro ad H locs la hW hs hl
  subst hst
  have o1 := gl_oks_app hs
  have hR := gl_roomR (mc := mc) (ms := ms) C hh (show maxL ≤ 41 by omega)
  have hlo : 12 + (maxL + 11) + (gl_rm h mc ms).locals ≤ (gl_R κ).locals := by
    rw [C.ro]
    show 12 + (maxL + 11) + 60 * h ≤ 60 * h'
    omega
  refine ⟨gl_ok1 o1.2, _, gl_vrun12 (As := As.map (gl_v ad)) (b := ad b) (n := n) ⟨C.ex, C.bt, C.ml, C.ow, C.ts⟩ (hM ad H.size (gl_okc (gl_okh o1.2) (gl_oks_rev o1.1))) rfl rfl hR.1 hlo (pay_in C.ts (lw_meth q1)) List.mem_cons_self (C.ts _ q1) (C.ts _ qi) ⟨hd.1, hd.2.1⟩ (fun sig hq => ?_) (C.ts _ ql) (C.ts _ qn) (C.ts _ qe) ⟨gl_blind, va_recv C.K hW.1 hcl (gl_obj_at (gl_okh o1.2) hk), fun U hU hw => gl_pre C hW U hU hw⟩ rfl (by rw [List.length_map]; exact hn) hl.1 gl_st_rev ?_ d (gl_roomC C h1 h2)⟩
  · have h2 := hd.2.2
    rw [hq] at h2
    exact (Option.some.inj h2).symm
  · show 2 * 0 + _ ≤ 12
    rw [gl_cat_map]
    omega
theorem cs_X0_216w (C : gl_Cx κ RX0 cc (gl_rm h' M Ms) ret') {b x : Nat} (hM : gl_Ct κ.1.2.1 (gl_d κ) yX0_writes (ws_ yX0_writes cX0_writes 8 ((some FieldType.int))) (gl_rm h mc ms) mc ms (.ref b :: As) S Qk) (hk : S.1.2 b = (8, x)) (hn : As.length = 4) (hh : h + 1 ≤ h') (h1 : nc + mc ≤ M) (h2 : ns + ms ≤ Ms) (hst : st0 = As.reverse ++ .ref b :: rest) (hr : (rest.map fun v => v.category).sum ≤ 12) (d : decode cc pc = .ok (.invokevirtual 216, 3)) : gl_Run κ nc ns S pc ls st0 rest mc ms Qk := gl_runV12 (ci := 0) C hM q645 q647 qs9 q57 q648 (by decide +kernel) (by decide) rfl hn hk hh h1 h2 hst hr d
end RW12
