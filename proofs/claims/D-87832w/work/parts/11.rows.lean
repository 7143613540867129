/-! rows of the frame: arithmetic, branches, fields, arrays, calls, returns (by genframe.py) -/
set_option maxRecDepth 100000
section RWA
variable {κ : gl_Kap} {own : String} {cc : ByteArray} {rm : Room} {ret : Option FieldType} {nc ns pc : Nat} {S : gl_Sto} {ls : List (Option Value)} {st : List Value}
theorem j_iadd (C : gl_Cx κ own cc rm ret) {x y : Int32} (d : decode cc pc = .ok (.iadd, 1)) (n' : Nat) (hn : pc + 1 = n') (k : gl_J κ nc ns S n' ls (.int (x + y) :: st)) : gl_J κ nc ns S pc ls (.int y :: .int x :: st) := by
  subst hn
  intro ad H locs la hW hS hX ho hs hl
  exact lv_iadd C.ex C.bt d (k ad H locs la hW hS hX ho (gl_oki (gl_ok2 hs)) hl)
theorem j_isub (C : gl_Cx κ own cc rm ret) {x y : Int32} (d : decode cc pc = .ok (.isub, 1)) (n' : Nat) (hn : pc + 1 = n') (k : gl_J κ nc ns S n' ls (.int (x - y) :: st)) : gl_J κ nc ns S pc ls (.int y :: .int x :: st) := by
  subst hn
  intro ad H locs la hW hS hX ho hs hl
  exact lv_isub C.ex C.bt d (k ad H locs la hW hS hX ho (gl_oki (gl_ok2 hs)) hl)
theorem j_imul (C : gl_Cx κ own cc rm ret) {x y : Int32} (d : decode cc pc = .ok (.imul, 1)) (n' : Nat) (hn : pc + 1 = n') (k : gl_J κ nc ns S n' ls (.int (x * y) :: st)) : gl_J κ nc ns S pc ls (.int y :: .int x :: st) := by
  subst hn
  intro ad H locs la hW hS hX ho hs hl
  exact lv_imul C.ex C.bt d (k ad H locs la hW hS hX ho (gl_oki (gl_ok2 hs)) hl)
theorem j_iand (C : gl_Cx κ own cc rm ret) {x y : Int32} (d : decode cc pc = .ok (.iand, 1)) (n' : Nat) (hn : pc + 1 = n') (k : gl_J κ nc ns S n' ls (.int (x &&& y) :: st)) : gl_J κ nc ns S pc ls (.int y :: .int x :: st) := by
  subst hn
  intro ad H locs la hW hS hX ho hs hl
  exact lv_iand C.ex C.bt d (k ad H locs la hW hS hX ho (gl_oki (gl_ok2 hs)) hl)
theorem j_ior (C : gl_Cx κ own cc rm ret) {x y : Int32} (d : decode cc pc = .ok (.ior, 1)) (n' : Nat) (hn : pc + 1 = n') (k : gl_J κ nc ns S n' ls (.int (x ||| y) :: st)) : gl_J κ nc ns S pc ls (.int y :: .int x :: st) := by
  subst hn
  intro ad H locs la hW hS hX ho hs hl
  exact lv_ior C.ex C.bt d (k ad H locs la hW hS hX ho (gl_oki (gl_ok2 hs)) hl)
theorem j_ixor (C : gl_Cx κ own cc rm ret) {x y : Int32} (d : decode cc pc = .ok (.ixor, 1)) (n' : Nat) (hn : pc + 1 = n') (k : gl_J κ nc ns S n' ls (.int (x ^^^ y) :: st)) : gl_J κ nc ns S pc ls (.int y :: .int x :: st) := by
  subst hn
  intro ad H locs la hW hS hX ho hs hl
  exact lv_ixor C.ex C.bt d (k ad H locs la hW hS hX ho (gl_oki (gl_ok2 hs)) hl)
theorem j_ishl (C : gl_Cx κ own cc rm ret) {x y : Int32} (d : decode cc pc = .ok (.ishl, 1)) (n' : Nat) (hn : pc + 1 = n') (k : gl_J κ nc ns S n' ls (.int (x <<< (y &&& 31)) :: st)) : gl_J κ nc ns S pc ls (.int y :: .int x :: st) := by
  subst hn
  intro ad H locs la hW hS hX ho hs hl
  exact lv_ishl C.ex C.bt d (k ad H locs la hW hS hX ho (gl_oki (gl_ok2 hs)) hl)
theorem j_ishr (C : gl_Cx κ own cc rm ret) {x y : Int32} (d : decode cc pc = .ok (.ishr, 1)) (n' : Nat) (hn : pc + 1 = n') (k : gl_J κ nc ns S n' ls (.int (x >>> (y &&& 31)) :: st)) : gl_J κ nc ns S pc ls (.int y :: .int x :: st) := by
  subst hn
  intro ad H locs la hW hS hX ho hs hl
  exact lv_ishr C.ex C.bt d (k ad H locs la hW hS hX ho (gl_oki (gl_ok2 hs)) hl)
theorem j_idiv (C : gl_Cx κ own cc rm ret) {x y : Int32} (d : decode cc pc = .ok (.idiv, 1)) (hne : ¬ y = 0) (n' : Nat) (hn : pc + 1 = n') (k : gl_J κ nc ns S n' ls (.int (x / y) :: st)) : gl_J κ nc ns S pc ls (.int y :: .int x :: st) := by
  subst hn
  intro ad H locs la hW hS hX ho hs hl
  exact lv_idiv C.ex C.bt d hne (k ad H locs la hW hS hX ho (gl_oki (gl_ok2 hs)) hl)
theorem j_irem (C : gl_Cx κ own cc rm ret) {x y : Int32} (d : decode cc pc = .ok (.irem, 1)) (hne : ¬ y = 0) (n' : Nat) (hn : pc + 1 = n') (k : gl_J κ nc ns S n' ls (.int (x - x / y * y) :: st)) : gl_J κ nc ns S pc ls (.int y :: .int x :: st) := by
  subst hn
  intro ad H locs la hW hS hX ho hs hl
  exact lv_irem C.ex C.bt d hne (k ad H locs la hW hS hX ho (gl_oki (gl_ok2 hs)) hl)
theorem j_iushr (C : gl_Cx κ own cc rm ret) {x y : Int32} (d : decode cc pc = .ok (.iushr, 1)) (n' : Nat) (hn : pc + 1 = n') (k : gl_J κ nc ns S n' ls (.int ((x.toUInt32 >>> (y.toUInt32 &&& Int32.toUInt32 31)).toInt32) :: st)) : gl_J κ nc ns S pc ls (.int y :: .int x :: st) := by
  subst hn
  intro ad H locs la hW hS hX ho hs hl
  exact lv_iushr C.ex C.bt d rfl (k ad H locs la hW hS hX ho (gl_oki (gl_ok2 hs)) hl)
theorem n_iadd (C : gl_Cx κ own cc rm ret) {a b : Nat} (d : decode cc pc = .ok (.iadd, 1)) (n' : Nat) (hn : pc + 1 = n') (k : gl_J κ nc ns S n' ls (.int (nI (a + b)) :: st)) : gl_J κ nc ns S pc ls (.int (nI b) :: .int (nI a) :: st) := by
  refine j_iadd C d n' hn ?_
  rw [nI_add]
  exact k
theorem n_imul (C : gl_Cx κ own cc rm ret) {a b : Nat} (d : decode cc pc = .ok (.imul, 1)) (n' : Nat) (hn : pc + 1 = n') (k : gl_J κ nc ns S n' ls (.int (nI (a * b)) :: st)) : gl_J κ nc ns S pc ls (.int (nI b) :: .int (nI a) :: st) := by
  refine j_imul C d n' hn ?_
  rw [pk_mul]
  exact k
theorem n_isub (C : gl_Cx κ own cc rm ret) {a b : Nat} (d : decode cc pc = .ok (.isub, 1)) (h : b ≤ a) (n' : Nat) (hn : pc + 1 = n') (k : gl_J κ nc ns S n' ls (.int (nI (a - b)) :: st)) : gl_J κ nc ns S pc ls (.int (nI b) :: .int (nI a) :: st) := by
  refine j_isub C d n' hn ?_
  rw [pk_sub h]
  exact k
theorem n_irem (C : gl_Cx κ own cc rm ret) {a b : Nat} (d : decode cc pc = .ok (.irem, 1)) (ha : a < 2 ^ 31) (h0 : 0 < b) (hb : b < 2 ^ 31) (n' : Nat) (hn : pc + 1 = n') (k : gl_J κ nc ns S n' ls (.int (nI (a % b)) :: st)) : gl_J κ nc ns S pc ls (.int (nI b) :: .int (nI a) :: st) := by
  refine j_irem C d (nI_ne0 h0 hb) n' hn ?_
  rw [pk_rem ha h0 hb]
  exact k
theorem n_idiv (C : gl_Cx κ own cc rm ret) {a b : Nat} (d : decode cc pc = .ok (.idiv, 1)) (ha : a < 2 ^ 31) (h0 : 0 < b) (hb : b < 2 ^ 31) (n' : Nat) (hn : pc + 1 = n') (k : gl_J κ nc ns S n' ls (.int (nI (a / b)) :: st)) : gl_J κ nc ns S pc ls (.int (nI b) :: .int (nI a) :: st) := by
  refine j_idiv C d (nI_ne0 h0 hb) n' hn ?_
  rw [pk_div ha h0 hb]
  exact k
theorem j_land (C : gl_Cx κ own cc rm ret) {x y : Int64} (d : decode cc pc = .ok (.land, 1)) (n' : Nat) (hn : pc + 1 = n') (k : gl_J κ nc ns S n' ls (.long (x &&& y) :: st)) : gl_J κ nc ns S pc ls (.long y :: .long x :: st) := by
  subst hn
  intro ad H locs la hW hS hX ho hs hl
  exact lv_land C.ex C.bt d (k ad H locs la hW hS hX ho (gl_okj (gl_ok2 hs)) hl)
theorem j_lor (C : gl_Cx κ own cc rm ret) {x y : Int64} (d : decode cc pc = .ok (.lor, 1)) (n' : Nat) (hn : pc + 1 = n') (k : gl_J κ nc ns S n' ls (.long (x ||| y) :: st)) : gl_J κ nc ns S pc ls (.long y :: .long x :: st) := by
  subst hn
  intro ad H locs la hW hS hX ho hs hl
  exact lv_lor C.ex C.bt d (k ad H locs la hW hS hX ho (gl_okj (gl_ok2 hs)) hl)
theorem j_lshl (C : gl_Cx κ own cc rm ret) {x : Int64} {y : Int32} (d : decode cc pc = .ok (.lshl, 1)) (n' : Nat) (hn : pc + 1 = n') (k : gl_J κ nc ns S n' ls (.long (x <<< (y.toInt64 &&& 63)) :: st)) : gl_J κ nc ns S pc ls (.int y :: .long x :: st) := by
  subst hn
  intro ad H locs la hW hS hX ho hs hl
  exact lv_lshl C.ex C.bt d rfl (k ad H locs la hW hS hX ho (gl_okj (gl_ok2 hs)) hl)
theorem j_lshr (C : gl_Cx κ own cc rm ret) {x : Int64} {y : Int32} (d : decode cc pc = .ok (.lshr, 1)) (n' : Nat) (hn : pc + 1 = n') (k : gl_J κ nc ns S n' ls (.long (x >>> (y.toInt64 &&& 63)) :: st)) : gl_J κ nc ns S pc ls (.int y :: .long x :: st) := by
  subst hn
  intro ad H locs la hW hS hX ho hs hl
  exact lv_lshr C.ex C.bt d rfl (k ad H locs la hW hS hX ho (gl_okj (gl_ok2 hs)) hl)
theorem j_i2l (C : gl_Cx κ own cc rm ret) {x : Int32} {v : Int64} (d : decode cc pc = .ok (.i2l, 1)) (hv : x.toInt64 = v) (n' : Nat) (hn : pc + 1 = n') (k : gl_J κ nc ns S n' ls (.long v :: st)) : gl_J κ nc ns S pc ls (.int x :: st) := by
  subst hn
  intro ad H locs la hW hS hX ho hs hl
  exact lv_i2l C.ex C.bt d hv (k ad H locs la hW hS hX ho (gl_okj (gl_ok1 hs)) hl)
theorem j_l2i (C : gl_Cx κ own cc rm ret) {x : Int64} (d : decode cc pc = .ok (.l2i, 1)) (n' : Nat) (hn : pc + 1 = n') (k : gl_J κ nc ns S n' ls (.int x.toInt32 :: st)) : gl_J κ nc ns S pc ls (.long x :: st) := by
  subst hn
  intro ad H locs la hW hS hX ho hs hl
  exact lv_l2i C.ex C.bt d rfl (k ad H locs la hW hS hX ho (gl_oki (gl_ok1 hs)) hl)
theorem j_lcmp (C : gl_Cx κ own cc rm ret) {x y : Int64} (d : decode cc pc = .ok (.lcmp, 1)) (n' : Nat) (hn : pc + 1 = n') (k : gl_J κ nc ns S n' ls (.int (lg_cmp x y) :: st)) : gl_J κ nc ns S pc ls (.long y :: .long x :: st) := by
  subst hn
  intro ad H locs la hW hS hX ho hs hl
  exact W.lcmp C.ex C.bt d (k ad H locs la hW hS hX ho (gl_oki (gl_ok2 hs)) hl)
theorem j_dup (C : gl_Cx κ own cc rm ret) {v : Value} (d : decode cc pc = .ok (.dup, 1)) (hc : v.category = 1) (n' : Nat) (hn : pc + 1 = n') (k : gl_J κ nc ns S n' ls (v :: v :: st)) : gl_J κ nc ns S pc ls (v :: st) := by
  subst hn
  intro ad H locs la hW hS hX ho hs hl
  exact lv_dup C.ex C.bt d (by rw [gl_v_cat]; exact hc) (k ad H locs la hW hS hX ho (gl_okc (gl_okh hs) hs) hl)
theorem j_dup2 (C : gl_Cx κ own cc rm ret) {v w : Value} (d : decode cc pc = .ok (.dup2, 1)) (hc : v.category = 1) (hc2 : w.category = 1) (n' : Nat) (hn : pc + 1 = n') (k : gl_J κ nc ns S n' ls (v :: w :: v :: w :: st)) : gl_J κ nc ns S pc ls (v :: w :: st) := by
  subst hn
  intro ad H locs la hW hS hX ho hs hl
  exact lv_dup2_11 C.ex C.bt d (by rw [gl_v_cat]; exact hc) (by rw [gl_v_cat]; exact hc2) (k ad H locs la hW hS hX ho (gl_okc (gl_okh hs) (gl_okc (gl_okh (gl_ok1 hs)) hs)) hl)
theorem j_goto (C : gl_Cx κ own cc rm ret) {off : Int} {tgt : Nat} (d : decode cc pc = .ok (.goto off, 3)) (ht : (pc : Int) + off = (tgt : Int)) (k : gl_J κ nc ns S tgt ls st) : gl_J κ nc ns S pc ls st := by
  intro ad H locs la hW hS hX ho hs hl
  exact lv_goto C.ex C.bt d ht (k ad H locs la hW hS hX ho hs hl)
theorem j_if_eq (C : gl_Cx κ own cc rm ret) {x : Int32} {off : Int} (tgt n' : Nat) (d : decode cc pc = .ok (.ifCond .eq off, 3)) (ht : (pc : Int) + off = (tgt : Int)) (hn : pc + 3 = n') (kt : x = 0 → gl_J κ nc ns S tgt ls st) (kf : ¬ x = 0 → gl_J κ nc ns S n' ls st) : gl_J κ nc ns S pc ls (.int x :: st) := by
  subst hn
  intro ad H locs la hW hS hX ho hs hl
  exact lv_if_eq C.ex C.bt d ht (fun h => kt h ad H locs la hW hS hX ho (gl_ok1 hs) hl) (fun h => kf h ad H locs la hW hS hX ho (gl_ok1 hs) hl)
theorem j_if_ne (C : gl_Cx κ own cc rm ret) {x : Int32} {off : Int} (tgt n' : Nat) (d : decode cc pc = .ok (.ifCond .ne off, 3)) (ht : (pc : Int) + off = (tgt : Int)) (hn : pc + 3 = n') (kt : ¬ x = 0 → gl_J κ nc ns S tgt ls st) (kf : x = 0 → gl_J κ nc ns S n' ls st) : gl_J κ nc ns S pc ls (.int x :: st) := by
  subst hn
  intro ad H locs la hW hS hX ho hs hl
  exact lv_if_ne C.ex C.bt d ht (fun h => kt h ad H locs la hW hS hX ho (gl_ok1 hs) hl) (fun h => kf h ad H locs la hW hS hX ho (gl_ok1 hs) hl)
theorem j_if_lt (C : gl_Cx κ own cc rm ret) {x : Int32} {off : Int} (tgt n' : Nat) (d : decode cc pc = .ok (.ifCond .lt off, 3)) (ht : (pc : Int) + off = (tgt : Int)) (hn : pc + 3 = n') (kt : x < 0 → gl_J κ nc ns S tgt ls st) (kf : ¬ x < 0 → gl_J κ nc ns S n' ls st) : gl_J κ nc ns S pc ls (.int x :: st) := by
  subst hn
  intro ad H locs la hW hS hX ho hs hl
  exact lv_if_lt C.ex C.bt d ht (fun h => kt h ad H locs la hW hS hX ho (gl_ok1 hs) hl) (fun h => kf h ad H locs la hW hS hX ho (gl_ok1 hs) hl)
theorem j_if_ge (C : gl_Cx κ own cc rm ret) {x : Int32} {off : Int} (tgt n' : Nat) (d : decode cc pc = .ok (.ifCond .ge off, 3)) (ht : (pc : Int) + off = (tgt : Int)) (hn : pc + 3 = n') (kt : 0 ≤ x → gl_J κ nc ns S tgt ls st) (kf : ¬ 0 ≤ x → gl_J κ nc ns S n' ls st) : gl_J κ nc ns S pc ls (.int x :: st) := by
  subst hn
  intro ad H locs la hW hS hX ho hs hl
  exact lv_if_ge C.ex C.bt d ht (fun h => kt h ad H locs la hW hS hX ho (gl_ok1 hs) hl) (fun h => kf h ad H locs la hW hS hX ho (gl_ok1 hs) hl)
theorem j_if_gt (C : gl_Cx κ own cc rm ret) {x : Int32} {off : Int} (tgt n' : Nat) (d : decode cc pc = .ok (.ifCond .gt off, 3)) (ht : (pc : Int) + off = (tgt : Int)) (hn : pc + 3 = n') (kt : 0 < x → gl_J κ nc ns S tgt ls st) (kf : ¬ 0 < x → gl_J κ nc ns S n' ls st) : gl_J κ nc ns S pc ls (.int x :: st) := by
  subst hn
  intro ad H locs la hW hS hX ho hs hl
  exact lv_if_gt C.ex C.bt d ht (fun h => kt h ad H locs la hW hS hX ho (gl_ok1 hs) hl) (fun h => kf h ad H locs la hW hS hX ho (gl_ok1 hs) hl)
theorem j_if_le (C : gl_Cx κ own cc rm ret) {x : Int32} {off : Int} (tgt n' : Nat) (d : decode cc pc = .ok (.ifCond .le off, 3)) (ht : (pc : Int) + off = (tgt : Int)) (hn : pc + 3 = n') (kt : x ≤ 0 → gl_J κ nc ns S tgt ls st) (kf : ¬ x ≤ 0 → gl_J κ nc ns S n' ls st) : gl_J κ nc ns S pc ls (.int x :: st) := by
  subst hn
  intro ad H locs la hW hS hX ho hs hl
  exact lv_if_le C.ex C.bt d ht (fun h => kt h ad H locs la hW hS hX ho (gl_ok1 hs) hl) (fun h => kf h ad H locs la hW hS hX ho (gl_ok1 hs) hl)
theorem j_icmp_eq (C : gl_Cx κ own cc rm ret) {x y : Int32} {off : Int} (tgt n' : Nat) (d : decode cc pc = .ok (.if_icmp .eq off, 3)) (ht : (pc : Int) + off = (tgt : Int)) (hn : pc + 3 = n') (kt : x = y → gl_J κ nc ns S tgt ls st) (kf : ¬ x = y → gl_J κ nc ns S n' ls st) : gl_J κ nc ns S pc ls (.int y :: .int x :: st) := by
  subst hn
  intro ad H locs la hW hS hX ho hs hl
  exact lv_icmp_eq C.ex C.bt d ht (fun h => kt h ad H locs la hW hS hX ho (gl_ok2 hs) hl) (fun h => kf h ad H locs la hW hS hX ho (gl_ok2 hs) hl)
theorem j_icmp_ne (C : gl_Cx κ own cc rm ret) {x y : Int32} {off : Int} (tgt n' : Nat) (d : decode cc pc = .ok (.if_icmp .ne off, 3)) (ht : (pc : Int) + off = (tgt : Int)) (hn : pc + 3 = n') (kt : ¬ x = y → gl_J κ nc ns S tgt ls st) (kf : x = y → gl_J κ nc ns S n' ls st) : gl_J κ nc ns S pc ls (.int y :: .int x :: st) := by
  subst hn
  intro ad H locs la hW hS hX ho hs hl
  exact lv_icmp_ne C.ex C.bt d ht (fun h => kt h ad H locs la hW hS hX ho (gl_ok2 hs) hl) (fun h => kf h ad H locs la hW hS hX ho (gl_ok2 hs) hl)
theorem j_icmp_lt (C : gl_Cx κ own cc rm ret) {x y : Int32} {off : Int} (tgt n' : Nat) (d : decode cc pc = .ok (.if_icmp .lt off, 3)) (ht : (pc : Int) + off = (tgt : Int)) (hn : pc + 3 = n') (kt : x < y → gl_J κ nc ns S tgt ls st) (kf : ¬ x < y → gl_J κ nc ns S n' ls st) : gl_J κ nc ns S pc ls (.int y :: .int x :: st) := by
  subst hn
  intro ad H locs la hW hS hX ho hs hl
  exact lv_icmp_lt C.ex C.bt d ht (fun h => kt h ad H locs la hW hS hX ho (gl_ok2 hs) hl) (fun h => kf h ad H locs la hW hS hX ho (gl_ok2 hs) hl)
theorem j_icmp_ge (C : gl_Cx κ own cc rm ret) {x y : Int32} {off : Int} (tgt n' : Nat) (d : decode cc pc = .ok (.if_icmp .ge off, 3)) (ht : (pc : Int) + off = (tgt : Int)) (hn : pc + 3 = n') (kt : y ≤ x → gl_J κ nc ns S tgt ls st) (kf : ¬ y ≤ x → gl_J κ nc ns S n' ls st) : gl_J κ nc ns S pc ls (.int y :: .int x :: st) := by
  subst hn
  intro ad H locs la hW hS hX ho hs hl
  exact lv_icmp_ge C.ex C.bt d ht (fun h => kt h ad H locs la hW hS hX ho (gl_ok2 hs) hl) (fun h => kf h ad H locs la hW hS hX ho (gl_ok2 hs) hl)
theorem j_icmp_gt (C : gl_Cx κ own cc rm ret) {x y : Int32} {off : Int} (tgt n' : Nat) (d : decode cc pc = .ok (.if_icmp .gt off, 3)) (ht : (pc : Int) + off = (tgt : Int)) (hn : pc + 3 = n') (kt : y < x → gl_J κ nc ns S tgt ls st) (kf : ¬ y < x → gl_J κ nc ns S n' ls st) : gl_J κ nc ns S pc ls (.int y :: .int x :: st) := by
  subst hn
  intro ad H locs la hW hS hX ho hs hl
  exact lv_icmp_gt C.ex C.bt d ht (fun h => kt h ad H locs la hW hS hX ho (gl_ok2 hs) hl) (fun h => kf h ad H locs la hW hS hX ho (gl_ok2 hs) hl)
theorem j_icmp_le (C : gl_Cx κ own cc rm ret) {x y : Int32} {off : Int} (tgt n' : Nat) (d : decode cc pc = .ok (.if_icmp .le off, 3)) (ht : (pc : Int) + off = (tgt : Int)) (hn : pc + 3 = n') (kt : x ≤ y → gl_J κ nc ns S tgt ls st) (kf : ¬ x ≤ y → gl_J κ nc ns S n' ls st) : gl_J κ nc ns S pc ls (.int y :: .int x :: st) := by
  subst hn
  intro ad H locs la hW hS hX ho hs hl
  exact lv_icmp_le C.ex C.bt d ht (fun h => kt h ad H locs la hW hS hX ho (gl_ok2 hs) hl) (fun h => kf h ad H locs la hW hS hX ho (gl_ok2 hs) hl)
theorem n_icmp_eq (C : gl_Cx κ own cc rm ret) {a b : Nat} {off : Int} (tgt n' : Nat) (d : decode cc pc = .ok (.if_icmp .eq off, 3)) (ht : (pc : Int) + off = (tgt : Int)) (hn : pc + 3 = n') (ha : a < 2 ^ 31) (hb : b < 2 ^ 31) (kt : a = b → gl_J κ nc ns S tgt ls st) (kf : a ≠ b → gl_J κ nc ns S n' ls st) : gl_J κ nc ns S pc ls (.int (nI b) :: .int (nI a) :: st) :=
  j_icmp_eq C tgt n' d ht hn (fun h => kt ((nI_eq ha hb).mp h)) (fun h => kf (fun q => h ((nI_eq ha hb).mpr q)))
theorem n_icmp_ne (C : gl_Cx κ own cc rm ret) {a b : Nat} {off : Int} (tgt n' : Nat) (d : decode cc pc = .ok (.if_icmp .ne off, 3)) (ht : (pc : Int) + off = (tgt : Int)) (hn : pc + 3 = n') (ha : a < 2 ^ 31) (hb : b < 2 ^ 31) (kt : a ≠ b → gl_J κ nc ns S tgt ls st) (kf : a = b → gl_J κ nc ns S n' ls st) : gl_J κ nc ns S pc ls (.int (nI b) :: .int (nI a) :: st) :=
  j_icmp_ne C tgt n' d ht hn (fun h => kt (fun q => h ((nI_eq ha hb).mpr q))) (fun h => kf ((nI_eq ha hb).mp h))
theorem n_icmp_lt (C : gl_Cx κ own cc rm ret) {a b : Nat} {off : Int} (tgt n' : Nat) (d : decode cc pc = .ok (.if_icmp .lt off, 3)) (ht : (pc : Int) + off = (tgt : Int)) (hn : pc + 3 = n') (ha : a < 2 ^ 31) (hb : b < 2 ^ 31) (kt : a < b → gl_J κ nc ns S tgt ls st) (kf : b ≤ a → gl_J κ nc ns S n' ls st) : gl_J κ nc ns S pc ls (.int (nI b) :: .int (nI a) :: st) :=
  j_icmp_lt C tgt n' d ht hn (fun h => kt ((nI_ltI ha hb).mp h)) (fun h => kf (Nat.not_lt.mp (fun q => h ((nI_ltI ha hb).mpr q))))
theorem n_icmp_ge (C : gl_Cx κ own cc rm ret) {a b : Nat} {off : Int} (tgt n' : Nat) (d : decode cc pc = .ok (.if_icmp .ge off, 3)) (ht : (pc : Int) + off = (tgt : Int)) (hn : pc + 3 = n') (ha : a < 2 ^ 31) (hb : b < 2 ^ 31) (kt : b ≤ a → gl_J κ nc ns S tgt ls st) (kf : a < b → gl_J κ nc ns S n' ls st) : gl_J κ nc ns S pc ls (.int (nI b) :: .int (nI a) :: st) :=
  j_icmp_ge C tgt n' d ht hn (fun h => kt ((nI_leI hb ha).mp h)) (fun h => kf (Nat.not_le.mp (fun q => h ((nI_leI hb ha).mpr q))))
theorem n_icmp_gt (C : gl_Cx κ own cc rm ret) {a b : Nat} {off : Int} (tgt n' : Nat) (d : decode cc pc = .ok (.if_icmp .gt off, 3)) (ht : (pc : Int) + off = (tgt : Int)) (hn : pc + 3 = n') (ha : a < 2 ^ 31) (hb : b < 2 ^ 31) (kt : b < a → gl_J κ nc ns S tgt ls st) (kf : a ≤ b → gl_J κ nc ns S n' ls st) : gl_J κ nc ns S pc ls (.int (nI b) :: .int (nI a) :: st) :=
  j_icmp_gt C tgt n' d ht hn (fun h => kt ((nI_ltI hb ha).mp h)) (fun h => kf (Nat.not_lt.mp (fun q => h ((nI_ltI hb ha).mpr q))))
theorem n_icmp_le (C : gl_Cx κ own cc rm ret) {a b : Nat} {off : Int} (tgt n' : Nat) (d : decode cc pc = .ok (.if_icmp .le off, 3)) (ht : (pc : Int) + off = (tgt : Int)) (hn : pc + 3 = n') (ha : a < 2 ^ 31) (hb : b < 2 ^ 31) (kt : a ≤ b → gl_J κ nc ns S tgt ls st) (kf : b < a → gl_J κ nc ns S n' ls st) : gl_J κ nc ns S pc ls (.int (nI b) :: .int (nI a) :: st) :=
  j_icmp_le C tgt n' d ht hn (fun h => kt ((nI_leI ha hb).mp h)) (fun h => kf (Nat.not_le.mp (fun q => h ((nI_leI ha hb).mpr q))))
theorem n_if_eq (C : gl_Cx κ own cc rm ret) {a : Nat} {off : Int} (tgt n' : Nat) (d : decode cc pc = .ok (.ifCond .eq off, 3)) (ht : (pc : Int) + off = (tgt : Int)) (hn : pc + 3 = n') (ha : a < 2 ^ 31) (kt : a = 0 → gl_J κ nc ns S tgt ls st) (kf : a ≠ 0 → gl_J κ nc ns S n' ls st) : gl_J κ nc ns S pc ls (.int (nI a) :: st) :=
  j_if_eq C tgt n' d ht hn (fun h => kt ((nI_eq ha (by decide)).mp h)) (fun h => kf (fun q => h (by rw [q]; rfl)))
theorem n_if_ne (C : gl_Cx κ own cc rm ret) {a : Nat} {off : Int} (tgt n' : Nat) (d : decode cc pc = .ok (.ifCond .ne off, 3)) (ht : (pc : Int) + off = (tgt : Int)) (hn : pc + 3 = n') (ha : a < 2 ^ 31) (kt : a ≠ 0 → gl_J κ nc ns S tgt ls st) (kf : a = 0 → gl_J κ nc ns S n' ls st) : gl_J κ nc ns S pc ls (.int (nI a) :: st) :=
  j_if_ne C tgt n' d ht hn (fun h => kt (fun q => h (by rw [q]; rfl))) (fun h => kf ((nI_eq ha (by decide)).mp h))
theorem n_if_lt (C : gl_Cx κ own cc rm ret) {a : Nat} {off : Int} (n' : Nat) (d : decode cc pc = .ok (.ifCond .lt off, 3)) {tgt : Nat} (ht : (pc : Int) + off = (tgt : Int)) (hn : pc + 3 = n') (ha : a < 2 ^ 31) (kf : gl_J κ nc ns S n' ls st) : gl_J κ nc ns S pc ls (.int (nI a) :: st) :=
  j_if_lt C tgt n' d ht hn (fun h => absurd h (nI_pos ha)) (fun _ => kf)
theorem n_if_ge (C : gl_Cx κ own cc rm ret) {a : Nat} {off : Int} (tgt : Nat) (d : decode cc pc = .ok (.ifCond .ge off, 3)) (ht : (pc : Int) + off = (tgt : Int)) (ha : a < 2 ^ 31) (kt : gl_J κ nc ns S tgt ls st) : gl_J κ nc ns S pc ls (.int (nI a) :: st) :=
  j_if_ge C tgt (pc + 3) d ht rfl (fun _ => kt) (fun h => absurd (nI_pos' ha) h)
theorem b_if_eq (C : gl_Cx κ own cc rm ret) {b : Bool} {off : Int} (tgt n' : Nat) (d : decode cc pc = .ok (.ifCond .eq off, 3)) (ht : (pc : Int) + off = (tgt : Int)) (hn : pc + 3 = n') (kt : b = false → gl_J κ nc ns S tgt ls st) (kf : b = true → gl_J κ nc ns S n' ls st) : gl_J κ nc ns S pc ls (.int (b2i b) :: st) :=
  j_if_eq C tgt n' d ht hn (fun h => kt (b2i_eq0.mp h)) (fun h => kf (by cases b with | true => rfl | false => exact absurd rfl h))
theorem b_if_ne (C : gl_Cx κ own cc rm ret) {b : Bool} {off : Int} (tgt n' : Nat) (d : decode cc pc = .ok (.ifCond .ne off, 3)) (ht : (pc : Int) + off = (tgt : Int)) (hn : pc + 3 = n') (kt : b = true → gl_J κ nc ns S tgt ls st) (kf : b = false → gl_J κ nc ns S n' ls st) : gl_J κ nc ns S pc ls (.int (b2i b) :: st) :=
  j_if_ne C tgt n' d ht hn (fun h => kt (by cases b with | true => rfl | false => exact absurd rfl h)) (fun h => kf (b2i_eq0.mp h))
theorem j_ifnull (C : gl_Cx κ own cc rm ret) {x : Nat} {off : Int} (d : decode cc pc = .ok (.ifnull off, 3)) (n' : Nat) (hn : pc + 3 = n') (k : gl_J κ nc ns S n' ls st) : gl_J κ nc ns S pc ls (.ref x :: st) := by
  subst hn
  intro ad H locs la hW hS hX ho hs hl
  exact lv_ifnull C.ex C.bt d (k ad H locs la hW hS hX ho (gl_ok1 hs) hl)
theorem j_ifnonnull (C : gl_Cx κ own cc rm ret) {x : Nat} {off : Int} (tgt : Nat) (d : decode cc pc = .ok (.ifnonnull off, 3)) (ht : (pc : Int) + off = (tgt : Int)) (k : gl_J κ nc ns S tgt ls st) : gl_J κ nc ns S pc ls (.ref x :: st) := by
  intro ad H locs la hW hS hX ho hs hl
  exact lv_ifnonnull C.ex C.bt d ht (k ad H locs la hW hS hX ho (gl_ok1 hs) hl)
theorem j_ifnullN (C : gl_Cx κ own cc rm ret) {off : Int} (tgt : Nat) (d : decode cc pc = .ok (.ifnull off, 3)) (ht : (pc : Int) + off = (tgt : Int)) (k : gl_J κ nc ns S tgt ls st) : gl_J κ nc ns S pc ls (.null :: st) := by
  intro ad H locs la hW hS hX ho hs hl
  exact lv_ifnullN C.ex C.bt d ht (k ad H locs la hW hS hX ho (gl_ok1 hs) hl)
theorem j_ifnonnullN (C : gl_Cx κ own cc rm ret) {off : Int} (d : decode cc pc = .ok (.ifnonnull off, 3)) (n' : Nat) (hn : pc + 3 = n') (k : gl_J κ nc ns S n' ls st) : gl_J κ nc ns S pc ls (.null :: st) := by
  subst hn
  intro ad H locs la hW hS hX ho hs hl
  exact lv_ifnonnullN C.ex C.bt d (k ad H locs la hW hS hX ho (gl_ok1 hs) hl)
theorem j_tableOut (C : gl_Cx κ own cc rm ret) {dflt lo hi : Int} {offs : Array Int} {len : Nat} {x : Int32} (tgt : Nat) (d : decode cc pc = .ok (.tableswitch dflt lo hi offs, len)) (h : x.toInt < lo ∨ hi < x.toInt) (ht : (pc : Int) + dflt = (tgt : Int)) (k : gl_J κ nc ns S tgt ls st) : gl_J κ nc ns S pc ls (.int x :: st) := by
  intro ad H locs la hW hS hX ho hs hl
  exact lv_tableOut C.ex C.bt d h ht (k ad H locs la hW hS hX ho (gl_ok1 hs) hl)
theorem j_tableIn (C : gl_Cx κ own cc rm ret) {dflt lo hi : Int} {offs : Array Int} {len : Nat} {x : Int32} {off : Int} (tgt : Nat) (d : decode cc pc = .ok (.tableswitch dflt lo hi offs, len)) (h1 : ¬ x.toInt < lo) (h2 : ¬ hi < x.toInt) (hof : offs[(x.toInt - lo).toNat]? = some off) (ht : (pc : Int) + off = (tgt : Int)) (k : gl_J κ nc ns S tgt ls st) : gl_J κ nc ns S pc ls (.int x :: st) := by
  intro ad H locs la hW hS hX ho hs hl
  exact lv_tableIn C.ex C.bt d h1 h2 hof ht (k ad H locs la hW hS hX ho (gl_ok1 hs) hl)
end RWA
