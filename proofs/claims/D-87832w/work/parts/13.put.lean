/-! rows of the frame: putfield, arrays, new, returns (by genput.py) -/
set_option maxRecDepth 100000
section RWP
variable {κ : gl_Kap} {own : String} {cc : ByteArray} {rm : Room} {ret : Option FieldType} {nc ns pc : Nat} {S : gl_Sto} {ls : List (Option Value)} {st : List Value}
variable {Λ : gl_Lay} {I : Nat → Nat → Int32} {L : Nat → Nat → Int64} {B : Nat → Nat → Bool} {R : Nat → Nat → Option Nat} {N : Nat} {sh : Nat → Nat × Nat}
theorem gl_nar_ref {ty : FieldType} (h : ty.isReference = true) (a : Nat) : narrow ty (.ref a) = .ref a := by cases ty <;> first | rfl | cases h
theorem gl_fit_ref {ty : FieldType} (h : ty.isReference = true) (a : Nat) : fits ty (.ref a) = true := by cases ty <;> first | rfl | cases h
theorem gl_nar_null {ty : FieldType} (h : ty.isReference = true) : narrow ty .null = .null := by cases ty <;> first | rfl | cases h
theorem gl_fit_null {ty : FieldType} (h : ty.isReference = true) : fits ty .null = true := by cases ty <;> first | rfl | cases h
theorem j_putfI (C : gl_Cx κ own cc rm ret) {ref Cn : String} {T : u_T} {M ci index c x k : Nat} {v : Int32} (hk : Λ.2 c = (ci + 8, x)) (hcl : vwCl[ci]? = some (Cn, T, M)) (hin : ∀ w ∈ u_ws Cn T M, w ∈ lw_all) (ty0 : Nat → FieldType) (hty : ∀ k, k < M → parseFieldDescriptor (T k).2.2.1 = some (ty0 k)) (hnm : ∀ a, a < M → ∀ b, b < M → a ≠ b → (T a).2.1 ≠ (T b).2.1) (hkM : k < M) (ht : (gl_ft ci)[k]? = some 0) (q : Cond.fieldLink own index ref (T k).2.1 (T k).2.2.1 ∈ lw_all) (hsame : ∀ x, (gl_s κ).fieldFound? (T k).1 (T k).2.1 (T k).2.2.1 = some x → (gl_s κ).fieldFound? ref (T k).2.1 (T k).2.2.1 = some x) (hfin : (T k).2.2.2 = false) (hd : parseFieldDescriptor (T k).2.2.1 = some .int)
    (d : decode cc pc = .ok (.putfield index, 3)) (n' : Nat) (hn : pc + 3 = n') (kk : gl_J κ nc ns (Λ, gl_u2 I c k v, L, B, R) n' ls st) : gl_J κ nc ns (Λ, I, L, B, R) pc ls (.int v :: .ref c :: st) := by
  subst hn
  intro ad H locs la hW hS hX ho hs hl
  have hc : c < Λ.1 := gl_okh (gl_ok1 hs)
  exact va_put C.ex C.bt C.ts hin ty0 hty hnm C.ow C.K hW.1 hW.2.1 hS c (gl_obj_at (S := (Λ, I, L, B, R)) hc hk) hcl k hkM (C.ts _ q) hsame hfin hd (by rfl) (by rfl) (gl_fs_lt ht) d (fun H1 locs1 hP1 hD1 hS1 => kk ad H1 locs1 la (gl_setI hc hk ht hW.2.2 hP1 hD1) hS1 hX ho (gl_ok2 hs) hl)
theorem j_putfB (C : gl_Cx κ own cc rm ret) {ref Cn : String} {T : u_T} {M ci index c x k : Nat} {v : Bool} (hk : Λ.2 c = (ci + 8, x)) (hcl : vwCl[ci]? = some (Cn, T, M)) (hin : ∀ w ∈ u_ws Cn T M, w ∈ lw_all) (ty0 : Nat → FieldType) (hty : ∀ k, k < M → parseFieldDescriptor (T k).2.2.1 = some (ty0 k)) (hnm : ∀ a, a < M → ∀ b, b < M → a ≠ b → (T a).2.1 ≠ (T b).2.1) (hkM : k < M) (ht : (gl_ft ci)[k]? = some 1) (q : Cond.fieldLink own index ref (T k).2.1 (T k).2.2.1 ∈ lw_all) (hsame : ∀ x, (gl_s κ).fieldFound? (T k).1 (T k).2.1 (T k).2.2.1 = some x → (gl_s κ).fieldFound? ref (T k).2.1 (T k).2.2.1 = some x) (hfin : (T k).2.2.2 = false) (hd : parseFieldDescriptor (T k).2.2.1 = some .boolean)
    (d : decode cc pc = .ok (.putfield index, 3)) (n' : Nat) (hn : pc + 3 = n') (kk : gl_J κ nc ns (Λ, I, L, gl_u2 B c k v, R) n' ls st) : gl_J κ nc ns (Λ, I, L, B, R) pc ls (.int (b2i v) :: .ref c :: st) := by
  subst hn
  intro ad H locs la hW hS hX ho hs hl
  have hc : c < Λ.1 := gl_okh (gl_ok1 hs)
  exact va_put C.ex C.bt C.ts hin ty0 hty hnm C.ow C.K hW.1 hW.2.1 hS c (gl_obj_at (S := (Λ, I, L, B, R)) hc hk) hcl k hkM (C.ts _ q) hsame hfin hd (b2i_narrow v) (b2i_fits v) (gl_fs_lt ht) d (fun H1 locs1 hP1 hD1 hS1 => kk ad H1 locs1 la (gl_setB hc hk ht hW.2.2 hP1 hD1) hS1 hX ho (gl_ok2 hs) hl)
theorem j_putfR (C : gl_Cx κ own cc rm ret) {ref Cn : String} {T : u_T} {M ci index c x k : Nat} {v : Nat} (hk : Λ.2 c = (ci + 8, x)) (hcl : vwCl[ci]? = some (Cn, T, M)) (hin : ∀ w ∈ u_ws Cn T M, w ∈ lw_all) (ty0 : Nat → FieldType) (hty : ∀ k, k < M → parseFieldDescriptor (T k).2.2.1 = some (ty0 k)) (hnm : ∀ a, a < M → ∀ b, b < M → a ≠ b → (T a).2.1 ≠ (T b).2.1) (hkM : k < M) (ht : (gl_ft ci)[k]? = some 2) (q : Cond.fieldLink own index ref (T k).2.1 (T k).2.2.1 ∈ lw_all) (hsame : ∀ x, (gl_s κ).fieldFound? (T k).1 (T k).2.1 (T k).2.2.1 = some x → (gl_s κ).fieldFound? ref (T k).2.1 (T k).2.2.1 = some x) (hfin : (T k).2.2.2 = false) {ty : FieldType} (hd : parseFieldDescriptor (T k).2.2.1 = some ty) (hrf : ty.isReference = true)
    (d : decode cc pc = .ok (.putfield index, 3)) (n' : Nat) (hn : pc + 3 = n') (kk : gl_J κ nc ns (Λ, I, L, B, gl_u2 R c k (some v)) n' ls st) : gl_J κ nc ns (Λ, I, L, B, R) pc ls (.ref v :: .ref c :: st) := by
  subst hn
  intro ad H locs la hW hS hX ho hs hl
  have hc : c < Λ.1 := gl_okh (gl_ok1 hs)
  exact va_put C.ex C.bt C.ts hin ty0 hty hnm C.ow C.K hW.1 hW.2.1 hS c (gl_obj_at (S := (Λ, I, L, B, R)) hc hk) hcl k hkM (C.ts _ q) hsame hfin hd (gl_nar_ref hrf _) (gl_fit_ref hrf _) (gl_fs_lt ht) d (fun H1 locs1 hP1 hD1 hS1 => kk ad H1 locs1 la (gl_setR (r := some v) hc hk ht hW.2.2 (fun x hx => by cases hx; exact gl_okh hs) hP1 hD1) hS1 hX ho (gl_ok2 hs) hl)
theorem j_putfRN (C : gl_Cx κ own cc rm ret) {ref Cn : String} {T : u_T} {M ci index c x k : Nat}  (hk : Λ.2 c = (ci + 8, x)) (hcl : vwCl[ci]? = some (Cn, T, M)) (hin : ∀ w ∈ u_ws Cn T M, w ∈ lw_all) (ty0 : Nat → FieldType) (hty : ∀ k, k < M → parseFieldDescriptor (T k).2.2.1 = some (ty0 k)) (hnm : ∀ a, a < M → ∀ b, b < M → a ≠ b → (T a).2.1 ≠ (T b).2.1) (hkM : k < M) (ht : (gl_ft ci)[k]? = some 2) (q : Cond.fieldLink own index ref (T k).2.1 (T k).2.2.1 ∈ lw_all) (hsame : ∀ x, (gl_s κ).fieldFound? (T k).1 (T k).2.1 (T k).2.2.1 = some x → (gl_s κ).fieldFound? ref (T k).2.1 (T k).2.2.1 = some x) (hfin : (T k).2.2.2 = false) {ty : FieldType} (hd : parseFieldDescriptor (T k).2.2.1 = some ty) (hrf : ty.isReference = true)
    (d : decode cc pc = .ok (.putfield index, 3)) (n' : Nat) (hn : pc + 3 = n') (kk : gl_J κ nc ns (Λ, I, L, B, gl_u2 R c k none) n' ls st) : gl_J κ nc ns (Λ, I, L, B, R) pc ls (.null :: .ref c :: st) := by
  subst hn
  intro ad H locs la hW hS hX ho hs hl
  have hc : c < Λ.1 := gl_okh (gl_ok1 hs)
  exact va_put C.ex C.bt C.ts hin ty0 hty hnm C.ow C.K hW.1 hW.2.1 hS c (gl_obj_at (S := (Λ, I, L, B, R)) hc hk) hcl k hkM (C.ts _ q) hsame hfin hd (gl_nar_null hrf) (gl_fit_null hrf) (gl_fs_lt ht) d (fun H1 locs1 hP1 hD1 hS1 => kk ad H1 locs1 la (gl_setR (r := none) hc hk ht hW.2.2 (fun x hx => by cases hx) hP1 hD1) hS1 hX ho (gl_ok2 hs) hl)
theorem j_putNI (C : gl_Cx κ own cc rm ret) {ref Cn host : String} {T : u_T} {M ci index c x k : Nat} {v : Int32} (hk : Λ.2 c = (ci + 8, x)) (hcl : vwCl[ci]? = some (Cn, T, M)) (hin : ∀ w ∈ u_ws Cn T M, w ∈ lw_all) (ty0 : Nat → FieldType) (hty : ∀ k, k < M → parseFieldDescriptor (T k).2.2.1 = some (ty0 k)) (hnm : ∀ a, a < M → ∀ b, b < M → a ≠ b → (T a).2.1 ≠ (T b).2.1) (hkM : k < M) (ht : (gl_ft ci)[k]? = some 0) (q : Cond.fieldLinkNest own index ref (T k).2.1 (T k).2.2.1 host ∈ lw_tbl) (hsame : ∀ x, (gl_s κ).fieldFound? (T k).1 (T k).2.1 (T k).2.2.1 = some x → (gl_s κ).fieldFound? ref (T k).2.1 (T k).2.2.1 = some x) (hfin : (T k).2.2.2 = false) (hd : parseFieldDescriptor (T k).2.2.1 = some .int)
    (d : decode cc pc = .ok (.putfield index, 3)) (n' : Nat) (hn : pc + 3 = n') (kk : gl_J κ nc ns (Λ, gl_u2 I c k v, L, B, R) n' ls st) : gl_J κ nc ns (Λ, I, L, B, R) pc ls (.int v :: .ref c :: st) := by
  subst hn
  intro ad H locs la hW hS hX ho hs hl
  have hc : c < Λ.1 := gl_okh (gl_ok1 hs)
  exact va_putN C.ex C.bt C.ts hin ty0 hty hnm C.ow C.K hW.1 hW.2.1 hS c (gl_obj_at (S := (Λ, I, L, B, R)) hc hk) hcl k hkM (va_Nw.use rfl (C.nw q rfl)) hsame hfin hd (by rfl) (by rfl) (gl_fs_lt ht) d (fun H1 locs1 hP1 hD1 hS1 => kk ad H1 locs1 la (gl_setI hc hk ht hW.2.2 hP1 hD1) hS1 hX ho (gl_ok2 hs) hl)
theorem j_putNB (C : gl_Cx κ own cc rm ret) {ref Cn host : String} {T : u_T} {M ci index c x k : Nat} {v : Bool} (hk : Λ.2 c = (ci + 8, x)) (hcl : vwCl[ci]? = some (Cn, T, M)) (hin : ∀ w ∈ u_ws Cn T M, w ∈ lw_all) (ty0 : Nat → FieldType) (hty : ∀ k, k < M → parseFieldDescriptor (T k).2.2.1 = some (ty0 k)) (hnm : ∀ a, a < M → ∀ b, b < M → a ≠ b → (T a).2.1 ≠ (T b).2.1) (hkM : k < M) (ht : (gl_ft ci)[k]? = some 1) (q : Cond.fieldLinkNest own index ref (T k).2.1 (T k).2.2.1 host ∈ lw_tbl) (hsame : ∀ x, (gl_s κ).fieldFound? (T k).1 (T k).2.1 (T k).2.2.1 = some x → (gl_s κ).fieldFound? ref (T k).2.1 (T k).2.2.1 = some x) (hfin : (T k).2.2.2 = false) (hd : parseFieldDescriptor (T k).2.2.1 = some .boolean)
    (d : decode cc pc = .ok (.putfield index, 3)) (n' : Nat) (hn : pc + 3 = n') (kk : gl_J κ nc ns (Λ, I, L, gl_u2 B c k v, R) n' ls st) : gl_J κ nc ns (Λ, I, L, B, R) pc ls (.int (b2i v) :: .ref c :: st) := by
  subst hn
  intro ad H locs la hW hS hX ho hs hl
  have hc : c < Λ.1 := gl_okh (gl_ok1 hs)
  exact va_putN C.ex C.bt C.ts hin ty0 hty hnm C.ow C.K hW.1 hW.2.1 hS c (gl_obj_at (S := (Λ, I, L, B, R)) hc hk) hcl k hkM (va_Nw.use rfl (C.nw q rfl)) hsame hfin hd (b2i_narrow v) (b2i_fits v) (gl_fs_lt ht) d (fun H1 locs1 hP1 hD1 hS1 => kk ad H1 locs1 la (gl_setB hc hk ht hW.2.2 hP1 hD1) hS1 hX ho (gl_ok2 hs) hl)
theorem j_putNR (C : gl_Cx κ own cc rm ret) {ref Cn host : String} {T : u_T} {M ci index c x k : Nat} {v : Nat} (hk : Λ.2 c = (ci + 8, x)) (hcl : vwCl[ci]? = some (Cn, T, M)) (hin : ∀ w ∈ u_ws Cn T M, w ∈ lw_all) (ty0 : Nat → FieldType) (hty : ∀ k, k < M → parseFieldDescriptor (T k).2.2.1 = some (ty0 k)) (hnm : ∀ a, a < M → ∀ b, b < M → a ≠ b → (T a).2.1 ≠ (T b).2.1) (hkM : k < M) (ht : (gl_ft ci)[k]? = some 2) (q : Cond.fieldLinkNest own index ref (T k).2.1 (T k).2.2.1 host ∈ lw_tbl) (hsame : ∀ x, (gl_s κ).fieldFound? (T k).1 (T k).2.1 (T k).2.2.1 = some x → (gl_s κ).fieldFound? ref (T k).2.1 (T k).2.2.1 = some x) (hfin : (T k).2.2.2 = false) {ty : FieldType} (hd : parseFieldDescriptor (T k).2.2.1 = some ty) (hrf : ty.isReference = true)
    (d : decode cc pc = .ok (.putfield index, 3)) (n' : Nat) (hn : pc + 3 = n') (kk : gl_J κ nc ns (Λ, I, L, B, gl_u2 R c k (some v)) n' ls st) : gl_J κ nc ns (Λ, I, L, B, R) pc ls (.ref v :: .ref c :: st) := by
  subst hn
  intro ad H locs la hW hS hX ho hs hl
  have hc : c < Λ.1 := gl_okh (gl_ok1 hs)
  exact va_putN C.ex C.bt C.ts hin ty0 hty hnm C.ow C.K hW.1 hW.2.1 hS c (gl_obj_at (S := (Λ, I, L, B, R)) hc hk) hcl k hkM (va_Nw.use rfl (C.nw q rfl)) hsame hfin hd (gl_nar_ref hrf _) (gl_fit_ref hrf _) (gl_fs_lt ht) d (fun H1 locs1 hP1 hD1 hS1 => kk ad H1 locs1 la (gl_setR (r := some v) hc hk ht hW.2.2 (fun x hx => by cases hx; exact gl_okh hs) hP1 hD1) hS1 hX ho (gl_ok2 hs) hl)
theorem j_putNRN (C : gl_Cx κ own cc rm ret) {ref Cn host : String} {T : u_T} {M ci index c x k : Nat}  (hk : Λ.2 c = (ci + 8, x)) (hcl : vwCl[ci]? = some (Cn, T, M)) (hin : ∀ w ∈ u_ws Cn T M, w ∈ lw_all) (ty0 : Nat → FieldType) (hty : ∀ k, k < M → parseFieldDescriptor (T k).2.2.1 = some (ty0 k)) (hnm : ∀ a, a < M → ∀ b, b < M → a ≠ b → (T a).2.1 ≠ (T b).2.1) (hkM : k < M) (ht : (gl_ft ci)[k]? = some 2) (q : Cond.fieldLinkNest own index ref (T k).2.1 (T k).2.2.1 host ∈ lw_tbl) (hsame : ∀ x, (gl_s κ).fieldFound? (T k).1 (T k).2.1 (T k).2.2.1 = some x → (gl_s κ).fieldFound? ref (T k).2.1 (T k).2.2.1 = some x) (hfin : (T k).2.2.2 = false) {ty : FieldType} (hd : parseFieldDescriptor (T k).2.2.1 = some ty) (hrf : ty.isReference = true)
    (d : decode cc pc = .ok (.putfield index, 3)) (n' : Nat) (hn : pc + 3 = n') (kk : gl_J κ nc ns (Λ, I, L, B, gl_u2 R c k none) n' ls st) : gl_J κ nc ns (Λ, I, L, B, R) pc ls (.null :: .ref c :: st) := by
  subst hn
  intro ad H locs la hW hS hX ho hs hl
  have hc : c < Λ.1 := gl_okh (gl_ok1 hs)
  exact va_putN C.ex C.bt C.ts hin ty0 hty hnm C.ow C.K hW.1 hW.2.1 hS c (gl_obj_at (S := (Λ, I, L, B, R)) hc hk) hcl k hkM (va_Nw.use rfl (C.nw q rfl)) hsame hfin hd (gl_nar_null hrf) (gl_fit_null hrf) (gl_fs_lt ht) d (fun H1 locs1 hP1 hD1 hS1 => kk ad H1 locs1 la (gl_setR (r := none) hc hk ht hW.2.2 (fun x hx => by cases hx) hP1 hD1) hS1 hX ho (gl_ok2 hs) hl)
theorem j_putFR (C : gl_Cx κ own cc rm ret) {ref Cn : String} {T : u_T} {M ci index c x k : Nat} {v : Nat} (hk : Λ.2 c = (ci + 8, x)) (hcl : vwCl[ci]? = some (Cn, T, M)) (hin : ∀ w ∈ u_ws Cn T M, w ∈ lw_all) (ty0 : Nat → FieldType) (hty : ∀ k, k < M → parseFieldDescriptor (T k).2.2.1 = some (ty0 k)) (hnm : ∀ a, a < M → ∀ b, b < M → a ≠ b → (T a).2.1 ≠ (T b).2.1) (hkM : k < M) (ht : (gl_ft ci)[k]? = some 2) (q : Cond.fieldLink own index ref (T k).2.1 (T k).2.2.1 ∈ lw_all) (hsame : ∀ x, (gl_s κ).fieldFound? (T k).1 (T k).2.1 (T k).2.2.1 = some x → (gl_s κ).fieldFound? ref (T k).2.1 (T k).2.2.1 = some x) (hfin : (T k).2.2.2 = true) (hini : (gl_me κ).name = "<init>") (hdecl : (T k).1 = own) {ty : FieldType} (hd : parseFieldDescriptor (T k).2.2.1 = some ty) (hrf : ty.isReference = true)
    (d : decode cc pc = .ok (.putfield index, 3)) (n' : Nat) (hn : pc + 3 = n') (kk : gl_J κ nc ns (Λ, I, L, B, gl_u2 R c k (some v)) n' ls st) : gl_J κ nc ns (Λ, I, L, B, R) pc ls (.ref v :: .ref c :: st) := by
  subst hn
  intro ad H locs la hW hS hX ho hs hl
  have hc : c < Λ.1 := gl_okh (gl_ok1 hs)
  exact va_putF C.ex C.bt C.ts hin ty0 hty hnm C.ow C.K hW.1 hW.2.1 hS c (gl_obj_at (S := (Λ, I, L, B, R)) hc hk) hcl k hkM (C.ts _ q) hsame hfin hini hdecl hd (gl_nar_ref hrf _) (gl_fit_ref hrf _) (gl_fs_lt ht) d (fun H1 locs1 hP1 hD1 hS1 => kk ad H1 locs1 la (gl_setR (r := some v) hc hk ht hW.2.2 (fun x hx => by cases hx; exact gl_okh hs) hP1 hD1) hS1 hX ho (gl_ok2 hs) hl)
theorem j_putFRN (C : gl_Cx κ own cc rm ret) {ref Cn : String} {T : u_T} {M ci index c x k : Nat}  (hk : Λ.2 c = (ci + 8, x)) (hcl : vwCl[ci]? = some (Cn, T, M)) (hin : ∀ w ∈ u_ws Cn T M, w ∈ lw_all) (ty0 : Nat → FieldType) (hty : ∀ k, k < M → parseFieldDescriptor (T k).2.2.1 = some (ty0 k)) (hnm : ∀ a, a < M → ∀ b, b < M → a ≠ b → (T a).2.1 ≠ (T b).2.1) (hkM : k < M) (ht : (gl_ft ci)[k]? = some 2) (q : Cond.fieldLink own index ref (T k).2.1 (T k).2.2.1 ∈ lw_all) (hsame : ∀ x, (gl_s κ).fieldFound? (T k).1 (T k).2.1 (T k).2.2.1 = some x → (gl_s κ).fieldFound? ref (T k).2.1 (T k).2.2.1 = some x) (hfin : (T k).2.2.2 = true) (hini : (gl_me κ).name = "<init>") (hdecl : (T k).1 = own) {ty : FieldType} (hd : parseFieldDescriptor (T k).2.2.1 = some ty) (hrf : ty.isReference = true)
    (d : decode cc pc = .ok (.putfield index, 3)) (n' : Nat) (hn : pc + 3 = n') (kk : gl_J κ nc ns (Λ, I, L, B, gl_u2 R c k none) n' ls st) : gl_J κ nc ns (Λ, I, L, B, R) pc ls (.null :: .ref c :: st) := by
  subst hn
  intro ad H locs la hW hS hX ho hs hl
  have hc : c < Λ.1 := gl_okh (gl_ok1 hs)
  exact va_putF C.ex C.bt C.ts hin ty0 hty hnm C.ow C.K hW.1 hW.2.1 hS c (gl_obj_at (S := (Λ, I, L, B, R)) hc hk) hcl k hkM (C.ts _ q) hsame hfin hini hdecl hd (gl_nar_null hrf) (gl_fit_null hrf) (gl_fs_lt ht) d (fun H1 locs1 hP1 hD1 hS1 => kk ad H1 locs1 la (gl_setR (r := none) hc hk ht hW.2.2 (fun x hx => by cases hx) hP1 hD1) hS1 hX ho (gl_ok2 hs) hl)
theorem gl_at_i {ad : Nat → Nat} {δ : gl_Del} {c n : Nat} (hc : c < S.1.1) (hk : S.1.2 c = (0, n)) : (gl_stl δ ad S)[c]? = some (ad c, .inl (δ.2 0, n, .inl (S.2.1 c))) := by rw [gl_stl_get hc, gl_ce_i hk]
theorem gl_at_b {ad : Nat → Nat} {δ : gl_Del} {c n : Nat} (hc : c < S.1.1) (hk : S.1.2 c = (1, n)) : (gl_stl δ ad S)[c]? = some (ad c, .inl (δ.2 1, n, .inl (fun j => b2i (S.2.2.2.1 c j)))) := by rw [gl_stl_get hc, gl_ce_b hk]
theorem gl_at_l {ad : Nat → Nat} {δ : gl_Del} {c n : Nat} (hc : c < S.1.1) (hk : S.1.2 c = (2, n)) : (gl_stl δ ad S)[c]? = some (ad c, .inl (δ.2 2, n, .inr (.inl (S.2.2.1 c)))) := by rw [gl_stl_get hc, gl_ce_l hk]
theorem gl_at_r {ad : Nat → Nat} {δ : gl_Del} {c n t : Nat} (ht : 3 ≤ t ∧ t ≤ 7) (hc : c < S.1.1) (hk : S.1.2 c = (t, n)) : (gl_stl δ ad S)[c]? = some (ad c, .inl (δ.2 t, n, .inr (.inr (.inr (.inr (fun j => (S.2.2.2.2 c j).map ad)))))) := by rw [gl_stl_get hc, gl_ce_r ht hk]
theorem j_iald (C : gl_Cx κ own cc rm ret) {c n j : Nat} (hk : Λ.2 c = (0, n)) (hj : j < n) (hb : n < 2 ^ 31) (d : decode cc pc = .ok (.iaload, 1)) (n' : Nat) (hn : pc + 1 = n') (k : gl_J κ nc ns (Λ, I, L, B, R) n' ls (.int (I c j) :: st)) : gl_J κ nc ns (Λ, I, L, B, R) pc ls (.int (nI j) :: .ref c :: st) := by
  subst hn
  intro ad H locs la hW hS hX ho hs hl
  have hc : c < Λ.1 := gl_okh (gl_ok1 hs)
  refine va_iald C.ex C.bt C.K hW.1 c 0 (gl_at_i (S := (Λ, I, L, B, R)) hc hk) rfl (vp_in_nI hj hb) d ?_
  rw [nI_clamp (Nat.lt_trans hj hb)]
  exact k ad H locs la hW hS hX ho (gl_oki (gl_ok2 hs)) hl
theorem j_zald (C : gl_Cx κ own cc rm ret) {c n j : Nat} (hk : Λ.2 c = (1, n)) (hj : j < n) (hb : n < 2 ^ 31) (d : decode cc pc = .ok (.baload, 1)) (n' : Nat) (hn : pc + 1 = n') (k : gl_J κ nc ns (Λ, I, L, B, R) n' ls (.int (b2i (B c j)) :: st)) : gl_J κ nc ns (Λ, I, L, B, R) pc ls (.int (nI j) :: .ref c :: st) := by
  subst hn
  intro ad H locs la hW hS hX ho hs hl
  have hc : c < Λ.1 := gl_okh (gl_ok1 hs)
  refine va_zald C.ex C.bt C.K hW.1 c 1 (gl_at_b (S := (Λ, I, L, B, R)) hc hk) rfl (vp_in_nI hj hb) d ?_
  rw [nI_clamp (Nat.lt_trans hj hb)]
  exact k ad H locs la hW hS hX ho (gl_oki (gl_ok2 hs)) hl
theorem j_lald (C : gl_Cx κ own cc rm ret) {c n j : Nat} (hk : Λ.2 c = (2, n)) (hj : j < n) (hb : n < 2 ^ 31) (d : decode cc pc = .ok (.laload, 1)) (n' : Nat) (hn : pc + 1 = n') (k : gl_J κ nc ns (Λ, I, L, B, R) n' ls (.long (L c j) :: st)) : gl_J κ nc ns (Λ, I, L, B, R) pc ls (.int (nI j) :: .ref c :: st) := by
  subst hn
  intro ad H locs la hW hS hX ho hs hl
  have hc : c < Λ.1 := gl_okh (gl_ok1 hs)
  refine va_lald C.ex C.bt C.K hW.1 c 2 (gl_at_l (S := (Λ, I, L, B, R)) hc hk) rfl (vp_in_nI hj hb) d ?_
  rw [nI_clamp (Nat.lt_trans hj hb)]
  exact k ad H locs la hW hS hX ho (gl_okj (gl_ok2 hs)) hl
theorem gl_rv_ok {c j : Nat} (h : gl_wf S) (hc : c < S.1.1) : gl_okv S.1.1 (va_rf (S.2.2.2.2 c j)) := by
  cases hr : S.2.2.2.2 c j with
  | none => trivial
  | some r => exact h c j r hc hr
theorem j_aald (C : gl_Cx κ own cc rm ret) {c n j t : Nat} (ht : 3 ≤ t ∧ t ≤ 7) (hk : Λ.2 c = (t, n)) (hj : j < n) (hb : n < 2 ^ 31) (d : decode cc pc = .ok (.aaload, 1)) (n' : Nat) (hn : pc + 1 = n') (k : gl_J κ nc ns (Λ, I, L, B, R) n' ls (va_rf (R c j) :: st)) : gl_J κ nc ns (Λ, I, L, B, R) pc ls (.int (nI j) :: .ref c :: st) := by
  subst hn
  intro ad H locs la hW hS hX ho hs hl
  have hc : c < Λ.1 := gl_okh (gl_ok1 hs)
  have hv : gl_v ad (va_rf (R c j)) = va_rf ((R c j).map ad) := gl_v_rf ad _
  have hlt := Nat.lt_trans hj hb
  have kk := k ad H locs la hW hS hX ho (gl_okc (gl_rv_ok (S := (Λ, I, L, B, R)) hW.2.2 hc) (gl_ok2 hs)) hl
  rw [List.map_cons, hv] at kk
  have hty : ∃ ty : FieldType, (gl_tys (gl_d κ).2)[t]? = some ((gl_d κ).2 t, ty) ∧ ty.isReference = true := by
    match t, ht with
    | 3, _ => exact ⟨_, rfl, rfl⟩
    | 4, _ => exact ⟨_, rfl, rfl⟩
    | 5, _ => exact ⟨_, rfl, rfl⟩
    | 6, _ => exact ⟨_, rfl, rfl⟩
    | 7, _ => exact ⟨_, rfl, rfl⟩
  obtain ⟨ty, h1, h2⟩ := hty
  have e := nI_clamp hlt
  refine W.aald (v := va_rf ((R c j).map ad)) (ty := ty) C.ex C.bt (hW.1 c _ (gl_at_r (S := (Λ, I, L, B, R)) ht hc hk)) ((C.K.2 t _ h1).1 n (fun j => va_rf ((R c j).map ad))) h2 (fun q => by cases q) (by show ¬ (nI j < 0 ∨ (arrV _ _ _).slots.size ≤ _); rw [arrV_size]; exact vp_in_nI hj hb) (by show (arrV _ _ _).slots[_]? = _; rw [e, arrV_read _ _ hj]) rfl rfl d kk
theorem gl_ast {ad : Nat → Nat} {δ : gl_Del} {A : Nat → Prop} {H1 : Heap} {c n j : Nat} {v : Int32} (hc : c < Λ.1) (hk : Λ.2 c = (0, n)) (hwf : gl_wf (Λ, I, L, B, R)) (hP : va_P δ.1 vwCl ((gl_stl δ ad (Λ, I, L, B, R)).set c (ad c, .inl (δ.2 0, n, .inl (va_up (I c) j v)))) H1) (hD : va_D A ((gl_stl δ ad (Λ, I, L, B, R)).set c (ad c, .inl (δ.2 0, n, .inl (va_up (I c) j v))))) : gl_W δ A ad (Λ, gl_u2 I c j v, L, B, R) H1 := by
  refine gl_W.set (S := (Λ, I, L, B, R)) (S' := (Λ, gl_u2 I c j v, L, B, R)) hc rfl ?_ ?_ (gl_wf_same hwf rfl rfl) hP hD
  · rw [gl_ce_i (S := (Λ, gl_u2 I c j v, L, B, R)) hk]
    show Sum.inl (δ.2 0, n, Sum.inl (gl_u2 I c j v c)) = _
    rw [gl_u2_eq]
  · intro c' hn
    show gl_cr δ.2 ad (Λ.2 c') (gl_u2 I c j v c') (L c') (B c') (R c') = gl_cr δ.2 ad (Λ.2 c') (I c') (L c') (B c') (R c')
    rw [gl_u2_ne hn]
theorem j_iast (C : gl_Cx κ own cc rm ret) {c n j : Nat} {v : Int32} (hk : Λ.2 c = (0, n)) (hj : j < n) (hb : n < 2 ^ 31) (d : decode cc pc = .ok (.iastore, 1)) (n' : Nat) (hn : pc + 1 = n') (k : gl_J κ nc ns (Λ, gl_u2 I c j v, L, B, R) n' ls st) : gl_J κ nc ns (Λ, I, L, B, R) pc ls (.int v :: .int (nI j) :: .ref c :: st) := by
  subst hn
  intro ad H locs la hW hS hX ho hs hl
  have hc : c < Λ.1 := gl_okh (gl_ok2 hs)
  refine va_iast C.ex C.bt C.K hW.1 hW.2.1 hS c 0 (gl_at_i (S := (Λ, I, L, B, R)) hc hk) rfl (vp_in_nI hj hb) d (fun H1 locs1 hP1 hD1 hS1 => ?_)
  rw [nI_clamp (Nat.lt_trans hj hb)] at hP1 hD1
  exact k ad H1 locs1 la (gl_ast hc hk hW.2.2 hP1 hD1) hS1 hX ho (gl_ok3 hs) hl
theorem j_zast (C : gl_Cx κ own cc rm ret) {c n j : Nat} {v : Bool} (hk : Λ.2 c = (1, n)) (hj : j < n) (hb : n < 2 ^ 31) (d : decode cc pc = .ok (.bastore, 1)) (n' : Nat) (hn : pc + 1 = n') (k : gl_J κ nc ns (Λ, I, L, gl_u2 B c j v, R) n' ls st) : gl_J κ nc ns (Λ, I, L, B, R) pc ls (.int (b2i v) :: .int (nI j) :: .ref c :: st) := by
  subst hn
  intro ad H locs la hW hS hX ho hs hl
  have hc : c < Λ.1 := gl_okh (gl_ok2 hs)
  refine va_zast C.ex C.bt C.K hW.1 hW.2.1 hS c 1 (gl_at_b (S := (Λ, I, L, B, R)) hc hk) rfl (vp_in_nI hj hb) d (fun H1 locs1 hP1 hD1 hS1 => ?_)
  have e : upd (fun j => b2i (B c j)) j (b2i v) = fun i => b2i (gl_u2 B c j v c i) := by
    funext i
    rw [gl_u2_eq]
    by_cases h : i = j
    · simp [upd, va_up, h]
    · simp [upd, va_up, h]
  rw [nI_clamp (Nat.lt_trans hj hb), b2i_nar] at hP1 hD1
  have hP1 : va_P (gl_d κ).1 vwCl ((gl_stl (gl_d κ) ad (Λ, I, L, B, R)).set c (ad c, .inl ((gl_d κ).2 1, n, .inl (upd (fun j => b2i (B c j)) j (b2i v))))) H1 := hP1
  have hD1 : va_D (gl_A κ) ((gl_stl (gl_d κ) ad (Λ, I, L, B, R)).set c (ad c, .inl ((gl_d κ).2 1, n, .inl (upd (fun j => b2i (B c j)) j (b2i v))))) := hD1
  rw [e] at hP1 hD1
  refine k ad H1 locs1 la (gl_W.set (S := (Λ, I, L, B, R)) (S' := (Λ, I, L, gl_u2 B c j v, R)) hc rfl (gl_ce_b (S := (Λ, I, L, gl_u2 B c j v, R)) hk) (fun c' hn => ?_) (gl_wf_same hW.2.2 rfl rfl) hP1 hD1) hS1 hX ho (gl_ok3 hs) hl
  show gl_cr (gl_d κ).2 ad (Λ.2 c') (I c') (L c') (gl_u2 B c j v c') (R c') = gl_cr (gl_d κ).2 ad (Λ.2 c') (I c') (L c') (B c') (R c')
  rw [gl_u2_ne hn]
theorem j_last (C : gl_Cx κ own cc rm ret) {c n j : Nat} {v : Int64} (hk : Λ.2 c = (2, n)) (hj : j < n) (hb : n < 2 ^ 31) (d : decode cc pc = .ok (.lastore, 1)) (n' : Nat) (hn : pc + 1 = n') (k : gl_J κ nc ns (Λ, I, gl_u2 L c j v, B, R) n' ls st) : gl_J κ nc ns (Λ, I, L, B, R) pc ls (.long v :: .int (nI j) :: .ref c :: st) := by
  subst hn
  intro ad H locs la hW hS hX ho hs hl
  have hc : c < Λ.1 := gl_okh (gl_ok2 hs)
  refine va_last C.ex C.bt C.K hW.1 hW.2.1 hS c 2 (gl_at_l (S := (Λ, I, L, B, R)) hc hk) rfl (vp_in_nI hj hb) d (fun H1 locs1 hP1 hD1 hS1 => ?_)
  rw [nI_clamp (Nat.lt_trans hj hb)] at hP1 hD1
  have e : vp_updL (L c) j v = gl_u2 L c j v c := by rw [gl_u2_eq]; rfl
  have hP1 : va_P (gl_d κ).1 vwCl ((gl_stl (gl_d κ) ad (Λ, I, L, B, R)).set c (ad c, .inl ((gl_d κ).2 2, n, .inr (.inl (vp_updL (L c) j v))))) H1 := hP1
  have hD1 : va_D (gl_A κ) ((gl_stl (gl_d κ) ad (Λ, I, L, B, R)).set c (ad c, .inl ((gl_d κ).2 2, n, .inr (.inl (vp_updL (L c) j v))))) := hD1
  rw [e] at hP1 hD1
  refine k ad H1 locs1 la (gl_W.set (S := (Λ, I, L, B, R)) (S' := (Λ, I, gl_u2 L c j v, B, R)) hc rfl (gl_ce_l (S := (Λ, I, gl_u2 L c j v, B, R)) hk) (fun c' hn => ?_) (gl_wf_same hW.2.2 rfl rfl) hP1 hD1) hS1 hX ho (gl_ok3 hs) hl
  show gl_cr (gl_d κ).2 ad (Λ.2 c') (I c') (gl_u2 L c j v c') (B c') (R c') = gl_cr (gl_d κ).2 ad (Λ.2 c') (I c') (L c') (B c') (R c')
  rw [gl_u2_ne hn]
theorem j_alen (C : gl_Cx κ own cc rm ret) {c n t : Nat} (ht : t ≤ 7) (hk : Λ.2 c = (t, n)) (d : decode cc pc = .ok (.arraylength, 1)) (n' : Nat) (hn : pc + 1 = n') (k : gl_J κ nc ns (Λ, I, L, B, R) n' ls (.int (nI n) :: st)) : gl_J κ nc ns (Λ, I, L, B, R) pc ls (.ref c :: st) := by
  subst hn
  intro ad H locs la hW hS hX ho hs hl
  have hc : c < Λ.1 := gl_okh hs
  have kk := k ad H locs la hW hS hX ho (gl_oki (gl_ok1 hs)) hl
  match t, ht with
  | 0, _ => exact va_alen C.ex C.bt C.K hW.1 c 0 (gl_at_i (S := (Λ, I, L, B, R)) hc hk) rfl rfl d kk
  | 1, _ => exact va_alen C.ex C.bt C.K hW.1 c 1 (gl_at_b (S := (Λ, I, L, B, R)) hc hk) rfl rfl d kk
  | 2, _ => exact va_alen C.ex C.bt C.K hW.1 c 2 (gl_at_l (S := (Λ, I, L, B, R)) hc hk) rfl rfl d kk
  | 3, _ => exact va_alen C.ex C.bt C.K hW.1 c 3 (gl_at_r (S := (Λ, I, L, B, R)) (by decide) hc hk) rfl rfl d kk
  | 4, _ => exact va_alen C.ex C.bt C.K hW.1 c 4 (gl_at_r (S := (Λ, I, L, B, R)) (by decide) hc hk) rfl rfl d kk
  | 5, _ => exact va_alen C.ex C.bt C.K hW.1 c 5 (gl_at_r (S := (Λ, I, L, B, R)) (by decide) hc hk) rfl rfl d kk
  | 6, _ => exact va_alen C.ex C.bt C.K hW.1 c 6 (gl_at_r (S := (Λ, I, L, B, R)) (by decide) hc hk) rfl rfl d kk
  | 7, _ => exact va_alen C.ex C.bt C.K hW.1 c 7 (gl_at_r (S := (Λ, I, L, B, R)) (by decide) hc hk) rfl rfl d kk
end RWP
