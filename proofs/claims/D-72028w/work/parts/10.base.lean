/-! BASE: ints as Int (i32, i64), the judgement gG over a picture I of the heap, a row an instruction -/
abbrev i32 (x : Int) : Int32 := Int32.ofInt x
abbrev i64 (x : Int) : Int64 := Int64.ofInt x
abbrev R32 (x : Int) : Prop := -2147483648 ≤ x ∧ x ≤ 2147483647
abbrev R64 (x : Int) : Prop := -9223372036854775808 ≤ x ∧ x ≤ 9223372036854775807
theorem i32_to {x : Int} (h : R32 x) : (i32 x).toInt = x := Int32.toInt_ofInt_of_le (by omega) (by omega)
theorem i64_to {x : Int} (h : R64 x) : (i64 x).toInt = x := Int64.toInt_ofInt_of_le (by omega) (by omega)
theorem i32_eq {x y : Int} (hx : R32 x) (hy : R32 y) : i32 x = i32 y ↔ x = y := by
  rw [← Int32.toInt_inj, i32_to hx, i32_to hy]
theorem i32_le {x y : Int} (hx : R32 x) (hy : R32 y) : i32 x ≤ i32 y ↔ x ≤ y := by
  rw [Int32.le_iff_toInt_le, i32_to hx, i32_to hy]
theorem i32_lt {x y : Int} (hx : R32 x) (hy : R32 y) : i32 x < i32 y ↔ x < y := by
  rw [Int32.lt_iff_toInt_lt, i32_to hx, i32_to hy]
theorem i64_eq {x y : Int} (hx : R64 x) (hy : R64 y) : i64 x = i64 y ↔ x = y := by
  rw [← Int64.toInt_inj, i64_to hx, i64_to hy]
theorem i64_le {x y : Int} (hx : R64 x) (hy : R64 y) : i64 x ≤ i64 y ↔ x ≤ y := by
  rw [Int64.le_iff_toInt_le, i64_to hx, i64_to hy]
theorem i64_lt {x y : Int} (hx : R64 x) (hy : R64 y) : i64 x < i64 y ↔ x < y := by
  rw [Int64.lt_iff_toInt_lt, i64_to hx, i64_to hy]
theorem i32_0 : (0 : Int32) = i32 0 := rfl
theorem R32_0 : R32 0 := ⟨by omega, by omega⟩
theorem i32_nI {x : Int} (h : 0 ≤ x) : i32 x = nI x.toNat := by
  obtain ⟨n, rfl⟩ := Int.eq_ofNat_of_zero_le h
  rfl
theorem i64_lN {x : Int} (h : 0 ≤ x) : i64 x = lN x.toNat := by
  obtain ⟨n, rfl⟩ := Int.eq_ofNat_of_zero_le h
  rfl
theorem i32_of (x : Int32) : ∃ z : Int, R32 z ∧ x = i32 z := by
  refine ⟨x.toInt, ⟨?_, ?_⟩, (Int32.ofInt_toInt x).symm⟩
  · have := x.le_toInt; omega
  · have := x.toInt_lt; omega
theorem i32_in {x : Int} {n : Nat} (h0 : 0 ≤ x) (h1 : x < (n : Int)) (hn : n < 2147483648) : vp_in (i32 x) n := by
  rw [i32_nI h0]
  exact vp_in_nI (by omega) (by omega)
theorem i32_ix {x : Int} {n : Nat} (h0 : 0 ≤ x) (h1 : x < (n : Int)) (hn : n < 2147483648) : (i32 x).toNatClampNeg = x.toNat := by
  rw [i32_nI h0]
  exact nI_clamp (by omega)
/-- who walks: program, launch, surroundings, room, start, method, arguments, frames below, method, code, end -/
abbrev zz : Type := Program × Launch × Env × Room × State × MethodId × Array Value × List Frame × Method × Code × (State → Prop)
abbrev zz_p (Z : zz) : Program := Z.1
abbrev zz_l (Z : zz) : Launch := Z.2.1
abbrev zz_e (Z : zz) : Env := Z.2.2.1
abbrev zz_R (Z : zz) : Room := Z.2.2.2.1
abbrev zz_s (Z : zz) : State := Z.2.2.2.2.1
abbrev zz_m (Z : zz) : MethodId := Z.2.2.2.2.2.1
abbrev zz_a (Z : zz) : Array Value := Z.2.2.2.2.2.2.1
abbrev zz_b (Z : zz) : List Frame := Z.2.2.2.2.2.2.2.1
abbrev zz_t (Z : zz) : Method := Z.2.2.2.2.2.2.2.2.1
abbrev zz_c (Z : zz) : Code := Z.2.2.2.2.2.2.2.2.2.1
abbrev zz_q (Z : zz) : State → Prop := Z.2.2.2.2.2.2.2.2.2.2
/-- from every heap in the picture I, with the locals lv and the operands stk, the walk at pc comes to its end -/
def gG (Z : zz) (nL : Nat) (I : Heap → List Loc → Prop) (k n pc : Nat) (lv : List (Nat × Value)) (stk : List Value) : Prop :=
  ∀ (H : Heap) (locs : List Loc), I H locs → ∀ ls : Array Slot, lv_has ls nL lv → W (zz_p Z) (zz_l Z) (zz_e Z) (zz_R Z) (zz_s Z) (zz_m Z) (zz_a Z) (zz_b Z) (zz_t Z) (zz_c Z) H locs k n (zz_q Z) (F0 (zz_m Z) pc ls stk)
/-- what a walk leans on -/
def gC (Z : zz) (cc : ByteArray) (nL : Nat) (own : String) (ret : Option FieldType) (F N : Nat) : Prop :=
  (zz_p Z).tables.exec = Jvm.exec ∧ (zz_c Z).code = cc ∧ (zz_c Z).maxLocals = nL ∧ (zz_s Z).vm.findClass own = some (zz_m Z).cls ∧ (∀ w ∈ lw_all, w.before (zz_a Z) (zz_s Z) = true) ∧ (zz_t Z).sig.returnType = ret ∧ (zz_t Z).locks = false ∧ F ≤ (zz_R Z).frames ∧ N ≤ (zz_R Z).locals
section GX
variable {Z : zz} {cc : ByteArray} {nL : Nat} {own : String} {ret : Option FieldType} {F N : Nat} {I : Heap → List Loc → Prop} {k n pc : Nat} {lv lv' : List (Nat × Value)} {stk : List Value}
theorem gC.x (C : gC Z cc nL own ret F N) : (zz_p Z).tables.exec = Jvm.exec := C.1
theorem gC.b (C : gC Z cc nL own ret F N) : (zz_c Z).code = cc := C.2.1
theorem gC.ml (C : gC Z cc nL own ret F N) : (zz_c Z).maxLocals = nL := C.2.2.1
theorem gC.o (C : gC Z cc nL own ret F N) : (zz_s Z).vm.findClass own = some (zz_m Z).cls := C.2.2.2.1
theorem gC.w (C : gC Z cc nL own ret F N) : ∀ w ∈ lw_all, w.before (zz_a Z) (zz_s Z) = true := C.2.2.2.2.1
theorem gC.r (C : gC Z cc nL own ret F N) : (zz_t Z).sig.returnType = ret := C.2.2.2.2.2.1
theorem gC.lk (C : gC Z cc nL own ret F N) : (zz_t Z).locks = false := C.2.2.2.2.2.2.1
theorem gC.f (C : gC Z cc nL own ret F N) : F ≤ (zz_R Z).frames := C.2.2.2.2.2.2.2.1
theorem gC.nn (C : gC Z cc nL own ret F N) : N ≤ (zz_R Z).locals := C.2.2.2.2.2.2.2.2
theorem gx_lv (ks : List Nat) (h : lv_pick lv ks = lv') (K : gG Z nL I k n pc lv' stk) : gG Z nL I k n pc lv stk := fun H locs hI ls hl => K H locs hI ls (lv_sub hl ks h)
theorem gx_widen {k' n' : Nat} (h1 : k ≤ k') (h2 : n ≤ n') (K : gG Z nL I k' n' pc lv stk) : gG Z nL I k n pc lv stk := fun H locs hI ls hl => W.widen h1 h2 (K H locs hI ls hl)
theorem gx_imp {I' : Heap → List Loc → Prop} (h : ∀ H locs, I H locs → I' H locs) (K : gG Z nL I' k n pc lv stk) : gG Z nL I k n pc lv stk := fun H locs hI ls hl => K H locs (h H locs hI) ls hl
theorem gx_iconst (C : gC Z cc nL own ret F N) {x : Int} (d : decode cc pc = .ok (.iconst x, 1)) (K : gG Z nL I k n (pc + 1) lv (.int (i32 x) :: stk)) : gG Z nL I k n pc lv stk := fun H locs hI ls hl => lv_iconst C.x C.b d rfl (K H locs hI ls hl)
theorem gx_bipush (C : gC Z cc nL own ret F N) {x : Int} (d : decode cc pc = .ok (.bipush x, 2)) (hv : (Int8.ofInt x).toInt32 = i32 x) (K : gG Z nL I k n (pc + 2) lv (.int (i32 x) :: stk)) : gG Z nL I k n pc lv stk := fun H locs hI ls hl => lv_bipush C.x C.b d hv (K H locs hI ls hl)
theorem gx_sipush (C : gC Z cc nL own ret F N) {x : Int} (d : decode cc pc = .ok (.sipush x, 3)) (hv : (Int16.ofInt x).toInt32 = i32 x) (K : gG Z nL I k n (pc + 3) lv (.int (i32 x) :: stk)) : gG Z nL I k n pc lv stk := fun H locs hI ls hl => lv_sipush C.x C.b d hv (K H locs hI ls hl)
theorem gx_ldc (C : gC Z cc nL own ret F N) {index : Nat} {v : Int32} (x : Int) (hq : Cond.constant own index v ∈ lw_all) (hv : v = i32 x) (d : decode cc pc = .ok (.ldc index, 2)) (K : gG Z nL I k n (pc + 2) lv (.int (i32 x) :: stk)) : gG Z nL I k n pc lv stk := fun H locs hI ls hl => lv_ldc C.x C.b C.o (C.w _ hq) d (hv ▸ K H locs hI ls hl)
theorem gx_lconst (C : gC Z cc nL own ret F N) {j : Fin 2} (x : Int) (d : decode cc pc = .ok (.lconst j, 1)) (hv : Int64.ofNat (j : Nat) = i64 x) (K : gG Z nL I k n (pc + 1) lv (.long (i64 x) :: stk)) : gG Z nL I k n pc lv stk := fun H locs hI ls hl => lv_lconst C.x C.b d hv (K H locs hI ls hl)
theorem gx_ldc2 (C : gC Z cc nL own ret F N) {index : Nat} {v : Int64} (x : Int) (hq : Cond.constantLong own index v ∈ lw_all) (hv : v = i64 x) (d : decode cc pc = .ok (.ldc2_w index, 3)) (K : gG Z nL I k n (pc + 3) lv (.long (i64 x) :: stk)) : gG Z nL I k n pc lv stk := fun H locs hI ls hl => lv_ldc2 C.x C.b C.o (C.w _ hq) d (hv ▸ K H locs hI ls hl)
theorem gx_iload_n (C : gC Z cc nL own ret F N) {q : Fin 4} {i : Nat} {x : Int32} (d : decode cc pc = .ok (.iload_n q, 1)) (j : Nat) (hj : lv[j]? = some (i, .int x)) (hi : (q : Nat) = i) (K : gG Z nL I k n (pc + 1) lv (.int x :: stk)) : gG Z nL I k n pc lv stk := fun H locs hI ls hl => lv_iload_n C.x C.b d hi (lv_at hl j hj) (K H locs hI ls hl)
theorem gx_iload (C : gC Z cc nL own ret F N) {i : Nat} {x : Int32} (d : decode cc pc = .ok (.iload i, 2)) (j : Nat) (hj : lv[j]? = some (i, .int x)) (K : gG Z nL I k n (pc + 2) lv (.int x :: stk)) : gG Z nL I k n pc lv stk := fun H locs hI ls hl => lv_iload C.x C.b d (lv_at hl j hj) (K H locs hI ls hl)
theorem gx_lload_n (C : gC Z cc nL own ret F N) {q : Fin 4} {i : Nat} {x : Int64} (d : decode cc pc = .ok (.lload_n q, 1)) (j : Nat) (hj : lv[j]? = some (i, .long x)) (hi : (q : Nat) = i) (K : gG Z nL I k n (pc + 1) lv (.long x :: stk)) : gG Z nL I k n pc lv stk := fun H locs hI ls hl => lv_lload_n C.x C.b d hi (lv_at hl j hj) (K H locs hI ls hl)
theorem gx_lload (C : gC Z cc nL own ret F N) {i : Nat} {x : Int64} (d : decode cc pc = .ok (.lload i, 2)) (j : Nat) (hj : lv[j]? = some (i, .long x)) (K : gG Z nL I k n (pc + 2) lv (.long x :: stk)) : gG Z nL I k n pc lv stk := fun H locs hI ls hl => lv_lload C.x C.b d (lv_at hl j hj) (K H locs hI ls hl)
theorem gx_aload_n (C : gC Z cc nL own ret F N) {q : Fin 4} {i x : Nat} (d : decode cc pc = .ok (.aload_n q, 1)) (j : Nat) (hj : lv[j]? = some (i, .ref x)) (hi : (q : Nat) = i) (K : gG Z nL I k n (pc + 1) lv (.ref x :: stk)) : gG Z nL I k n pc lv stk := fun H locs hI ls hl => lv_aload_n C.x C.b d hi (lv_at hl j hj) (K H locs hI ls hl)
theorem gx_aload (C : gC Z cc nL own ret F N) {i x : Nat} (d : decode cc pc = .ok (.aload i, 2)) (j : Nat) (hj : lv[j]? = some (i, .ref x)) (K : gG Z nL I k n (pc + 2) lv (.ref x :: stk)) : gG Z nL I k n pc lv stk := fun H locs hI ls hl => lv_aload C.x C.b d (lv_at hl j hj) (K H locs hI ls hl)
theorem gx_istore_n (C : gC Z cc nL own ret F N) {q : Fin 4} {i : Nat} {x : Int32} (d : decode cc pc = .ok (.istore_n q, 1)) (hi : (q : Nat) = i) (hn : i < nL) (hl : (i, Value.int x) :: lv.filter (fun q => !(q.1 == i) && !(q.1 + 1 == i && q.2.category == 2)) = lv') (K : gG Z nL I k n (pc + 1) lv' stk) : gG Z nL I k n pc lv (.int x :: stk) := fun H locs hI ls h => lv_istore_n C.x C.b d hi h hn hl (fun ls h => K H locs hI ls h)
theorem gx_istore (C : gC Z cc nL own ret F N) {i : Nat} {x : Int32} (d : decode cc pc = .ok (.istore i, 2)) (hn : i < nL) (hl : (i, Value.int x) :: lv.filter (fun q => !(q.1 == i) && !(q.1 + 1 == i && q.2.category == 2)) = lv') (K : gG Z nL I k n (pc + 2) lv' stk) : gG Z nL I k n pc lv (.int x :: stk) := fun H locs hI ls h => lv_istore C.x C.b d h hn hl (fun ls h => K H locs hI ls h)
theorem gx_lstore_n (C : gC Z cc nL own ret F N) {q : Fin 4} {i : Nat} {x : Int64} (d : decode cc pc = .ok (.lstore_n q, 1)) (hi : (q : Nat) = i) (hn : i + 1 < nL) (hl : (i, Value.long x) :: lv.filter (fun q => !(q.1 == i) && (!(q.1 == i + 1) && !(q.1 + 1 == i && q.2.category == 2))) = lv') (K : gG Z nL I k n (pc + 1) lv' stk) : gG Z nL I k n pc lv (.long x :: stk) := fun H locs hI ls h => lv_lstore_n C.x C.b d hi h hn hl (fun ls h => K H locs hI ls h)
theorem gx_lstore (C : gC Z cc nL own ret F N) {i : Nat} {x : Int64} (d : decode cc pc = .ok (.lstore i, 2)) (hn : i + 1 < nL) (hl : (i, Value.long x) :: lv.filter (fun q => !(q.1 == i) && (!(q.1 == i + 1) && !(q.1 + 1 == i && q.2.category == 2))) = lv') (K : gG Z nL I k n (pc + 2) lv' stk) : gG Z nL I k n pc lv (.long x :: stk) := fun H locs hI ls h => lv_lstore C.x C.b d h hn hl (fun ls h => K H locs hI ls h)
theorem gx_astore_n (C : gC Z cc nL own ret F N) {q : Fin 4} {i x : Nat} (d : decode cc pc = .ok (.astore_n q, 1)) (hi : (q : Nat) = i) (hn : i < nL) (hl : (i, Value.ref x) :: lv.filter (fun q => !(q.1 == i) && !(q.1 + 1 == i && q.2.category == 2)) = lv') (K : gG Z nL I k n (pc + 1) lv' stk) : gG Z nL I k n pc lv (.ref x :: stk) := fun H locs hI ls h => lv_astore_n C.x C.b d hi h hn hl (fun ls h => K H locs hI ls h)
theorem gx_astore (C : gC Z cc nL own ret F N) {i x : Nat} (d : decode cc pc = .ok (.astore i, 2)) (hn : i < nL) (hl : (i, Value.ref x) :: lv.filter (fun q => !(q.1 == i) && !(q.1 + 1 == i && q.2.category == 2)) = lv') (K : gG Z nL I k n (pc + 2) lv' stk) : gG Z nL I k n pc lv (.ref x :: stk) := fun H locs hI ls h => lv_astore C.x C.b d h hn hl (fun ls h => K H locs hI ls h)
theorem gx_iinc (C : gC Z cc nL own ret F N) {i : Nat} {z x : Int} (d : decode cc pc = .ok (.iinc i z, 3)) (j : Nat) (hj : lv[j]? = some (i, .int (i32 x))) (hn : i < nL) (hl : (i, Value.int (i32 (x + z))) :: lv.filter (fun q => !(q.1 == i) && !(q.1 + 1 == i && q.2.category == 2)) = lv') (K : gG Z nL I k n (pc + 3) lv' stk) : gG Z nL I k n pc lv stk := fun H locs hI ls h => lv_iinc C.x C.b d h hj (Int32.ofInt_add x z).symm hn hl (fun ls h => K H locs hI ls h)
theorem gx_iadd (C : gC Z cc nL own ret F N) {x y : Int} (d : decode cc pc = .ok (.iadd, 1)) (K : gG Z nL I k n (pc + 1) lv (.int (i32 (x + y)) :: stk)) : gG Z nL I k n pc lv (.int (i32 y) :: .int (i32 x) :: stk) := fun H locs hI ls hl => lv_iadd C.x C.b d (by rw [← Int32.ofInt_add]; exact K H locs hI ls hl)
theorem gx_isub (C : gC Z cc nL own ret F N) {x y : Int} (d : decode cc pc = .ok (.isub, 1)) (K : gG Z nL I k n (pc + 1) lv (.int (i32 (x - y)) :: stk)) : gG Z nL I k n pc lv (.int (i32 y) :: .int (i32 x) :: stk) := fun H locs hI ls hl => lv_isub C.x C.b d (by rw [← Int32.ofInt_sub]; exact K H locs hI ls hl)
theorem gx_imul (C : gC Z cc nL own ret F N) {x y : Int} (d : decode cc pc = .ok (.imul, 1)) (K : gG Z nL I k n (pc + 1) lv (.int (i32 (x * y)) :: stk)) : gG Z nL I k n pc lv (.int (i32 y) :: .int (i32 x) :: stk) := fun H locs hI ls hl => lv_imul C.x C.b d (by rw [← Int32.ofInt_mul]; exact K H locs hI ls hl)
theorem gx_ineg (C : gC Z cc nL own ret F N) {x : Int} (d : decode cc pc = .ok (.ineg, 1)) (K : gG Z nL I k n (pc + 1) lv (.int (i32 (-x)) :: stk)) : gG Z nL I k n pc lv (.int (i32 x) :: stk) := fun H locs hI ls hl => lv_ineg C.x C.b d (by rw [← Int32.ofInt_neg]; exact K H locs hI ls hl)
/-- or, and, shift left, on Ints -/
def io_or (x y : Int) : Int := (i32 x ||| i32 y).toInt
def io_and (x y : Int) : Int := (i32 x &&& i32 y).toInt
def io_shl (x y : Int) : Int := (i32 x <<< (i32 y &&& 31)).toInt
def io_shr (x y : Int) : Int := (i32 x >>> (i32 y &&& 31)).toInt
def io_xor (x y : Int) : Int := (i32 x ^^^ i32 y).toInt
theorem gx_ior (C : gC Z cc nL own ret F N) {x y : Int} (d : decode cc pc = .ok (.ior, 1)) (K : gG Z nL I k n (pc + 1) lv (.int (i32 (io_or x y)) :: stk)) : gG Z nL I k n pc lv (.int (i32 y) :: .int (i32 x) :: stk) := fun H locs hI ls hl => lv_ior C.x C.b d (by rw [← Int32.ofInt_toInt (_ ||| _)]; exact K H locs hI ls hl)
theorem gx_iand (C : gC Z cc nL own ret F N) {x y : Int} (d : decode cc pc = .ok (.iand, 1)) (K : gG Z nL I k n (pc + 1) lv (.int (i32 (io_and x y)) :: stk)) : gG Z nL I k n pc lv (.int (i32 y) :: .int (i32 x) :: stk) := fun H locs hI ls hl => lv_iand C.x C.b d (by rw [← Int32.ofInt_toInt (_ &&& _)]; exact K H locs hI ls hl)
theorem gx_ixor (C : gC Z cc nL own ret F N) {x y : Int} (d : decode cc pc = .ok (.ixor, 1)) (K : gG Z nL I k n (pc + 1) lv (.int (i32 (io_xor x y)) :: stk)) : gG Z nL I k n pc lv (.int (i32 y) :: .int (i32 x) :: stk) := fun H locs hI ls hl => lv_ixor C.x C.b d (by rw [← Int32.ofInt_toInt (_ ^^^ _)]; exact K H locs hI ls hl)
theorem gx_ishl (C : gC Z cc nL own ret F N) {x y : Int} (d : decode cc pc = .ok (.ishl, 1)) (K : gG Z nL I k n (pc + 1) lv (.int (i32 (io_shl x y)) :: stk)) : gG Z nL I k n pc lv (.int (i32 y) :: .int (i32 x) :: stk) := fun H locs hI ls hl => lv_ishl C.x C.b d (by rw [← Int32.ofInt_toInt (_ <<< _)]; exact K H locs hI ls hl)
theorem gx_ishr (C : gC Z cc nL own ret F N) {x y : Int} (d : decode cc pc = .ok (.ishr, 1)) (K : gG Z nL I k n (pc + 1) lv (.int (i32 (io_shr x y)) :: stk)) : gG Z nL I k n pc lv (.int (i32 y) :: .int (i32 x) :: stk) := fun H locs hI ls hl => lv_ishr C.x C.b d (by rw [← Int32.ofInt_toInt (_ >>> _)]; exact K H locs hI ls hl)
theorem gx_idiv (C : gC Z cc nL own ret F N) {x y : Int} (d : decode cc pc = .ok (.idiv, 1)) (hx : 0 ≤ x ∧ x ≤ 2147483647) (hy : 0 < y ∧ y ≤ 2147483647) (K : gG Z nL I k n (pc + 1) lv (.int (i32 (x / y)) :: stk)) : gG Z nL I k n pc lv (.int (i32 y) :: .int (i32 x) :: stk) := fun H locs hI ls hl => lv_idiv C.x C.b d (by rw [i32_0, i32_eq (by omega) R32_0]; omega) (by
  have e : i32 x / i32 y = i32 (x / y) := by
    obtain ⟨a, rfl⟩ := Int.eq_ofNat_of_zero_le hx.1
    obtain ⟨b, rfl⟩ := Int.eq_ofNat_of_zero_le (show 0 ≤ y by omega)
    have h := pk_div (a := a) (d := b) (by omega) (by omega) (by omega)
    exact h
  rw [e]; exact K H locs hI ls hl)
theorem gx_irem (C : gC Z cc nL own ret F N) {x y : Int} (d : decode cc pc = .ok (.irem, 1)) (hx : 0 ≤ x ∧ x ≤ 2147483647) (hy : 0 < y ∧ y ≤ 2147483647) (K : gG Z nL I k n (pc + 1) lv (.int (i32 (x % y)) :: stk)) : gG Z nL I k n pc lv (.int (i32 y) :: .int (i32 x) :: stk) := fun H locs hI ls hl => lv_irem C.x C.b d (by rw [i32_0, i32_eq (by omega) R32_0]; omega) (by
  have e : i32 x - i32 x / i32 y * i32 y = i32 (x % y) := by
    rw [i32_nI hx.1, i32_nI (x := y) (by omega), pk_rem (by omega) (by omega) (by omega), i32_nI (Int.emod_nonneg x (by omega)), Int.toNat_emod hx.1 (by omega)]
  rw [e]; exact K H locs hI ls hl)
theorem gx_i2l (C : gC Z cc nL own ret F N) {x : Int} (d : decode cc pc = .ok (.i2l, 1)) (hx : R32 x) (K : gG Z nL I k n (pc + 1) lv (.long (i64 x) :: stk)) : gG Z nL I k n pc lv (.int (i32 x) :: stk) := fun H locs hI ls hl => lv_i2l C.x C.b d (by
  rw [← Int64.toInt_inj, Int32.toInt_toInt64, i32_to hx, i64_to (by omega)]) (K H locs hI ls hl)
theorem gx_l2i (C : gC Z cc nL own ret F N) {x : Int} (d : decode cc pc = .ok (.l2i, 1)) (hx : R32 x) (K : gG Z nL I k n (pc + 1) lv (.int (i32 x) :: stk)) : gG Z nL I k n pc lv (.long (i64 x) :: stk) := fun H locs hI ls hl => lv_l2i C.x C.b d (by
  have h : (i64 x).toInt32 = Int32.ofInt (i64 x).toInt := by rw [Int32.ofInt_int64ToInt]
  rw [h, i64_to (by omega)]) (K H locs hI ls hl)
theorem gx_lmul (C : gC Z cc nL own ret F N) {x y : Int} (d : decode cc pc = .ok (.lmul, 1)) (K : gG Z nL I k n (pc + 1) lv (.long (i64 (x * y)) :: stk)) : gG Z nL I k n pc lv (.long (i64 y) :: .long (i64 x) :: stk) := fun H locs hI ls hl => lv_lmul C.x C.b d (by rw [← Int64.ofInt_mul]; exact K H locs hI ls hl)
theorem gx_lrem (C : gC Z cc nL own ret F N) {x y : Int} (d : decode cc pc = .ok (.lrem, 1)) (hx : 0 ≤ x ∧ x ≤ 9223372036854775807) (hy : 0 < y ∧ y ≤ 9223372036854775807) (K : gG Z nL I k n (pc + 1) lv (.long (i64 (x % y)) :: stk)) : gG Z nL I k n pc lv (.long (i64 y) :: .long (i64 x) :: stk) := fun H locs hI ls hl => lv_lrem C.x C.b d (by
  intro h
  have h1 : i64 y = i64 0 := h
  rw [i64_eq (by omega) (by omega)] at h1
  omega) (by
  have e : i64 x - i64 x / i64 y * i64 y = i64 (x % y) := by
    rw [i64_lN hx.1, i64_lN (x := y) (by omega), pk_lRem (by omega) (by omega) (by omega), i64_lN (Int.emod_nonneg x (by omega)), Int.toNat_emod hx.1 (by omega)]
  rw [e]; exact K H locs hI ls hl)
/-- how two longs stand to one another -/
def io_cmp (x y : Int) : Int := if x < y then -1 else if y < x then 1 else 0
theorem gx_lcmp (C : gC Z cc nL own ret F N) {x y : Int} (d : decode cc pc = .ok (.lcmp, 1)) (hx : R64 x) (hy : R64 y) (K : gG Z nL I k n (pc + 1) lv (.int (i32 (io_cmp x y)) :: stk)) : gG Z nL I k n pc lv (.long (i64 y) :: .long (i64 x) :: stk) := fun H locs hI ls hl => W.lcmp C.x C.b d (by
  have e : lg_cmp (i64 x) (i64 y) = i32 (io_cmp x y) := by
    unfold lg_cmp io_cmp
    by_cases h1 : x < y
    · have h2 : ¬ y < x := by omega
      have h3 : ¬ x = y := by omega
      simp only [gt_iff_lt, i64_lt hy hx, i64_eq hx hy, h1, h2, h3, if_true, if_false]
      rfl
    · by_cases h2 : y < x
      · simp only [gt_iff_lt, i64_lt hy hx, h1, h2, if_true, if_false]
        rfl
      · have h3 : x = y := by omega
        have h4 : (x = y) = True := eq_true h3
        simp only [gt_iff_lt, i64_lt hy hx, i64_eq hx hy, h1, h2, h4, if_true, if_false]
        rfl
  rw [e]; exact K H locs hI ls hl)
theorem gx_dup (C : gC Z cc nL own ret F N) {v : Value} (d : decode cc pc = .ok (.dup, 1)) (hv : v.category = 1) (K : gG Z nL I k n (pc + 1) lv (v :: v :: stk)) : gG Z nL I k n pc lv (v :: stk) := fun H locs hI ls hl => lv_dup C.x C.b d hv (K H locs hI ls hl)
theorem gx_pop (C : gC Z cc nL own ret F N) {v : Value} (d : decode cc pc = .ok (.pop, 1)) (hv : v.category = 1) (K : gG Z nL I k n (pc + 1) lv stk) : gG Z nL I k n pc lv (v :: stk) := fun H locs hI ls hl => lv_pop C.x C.b d hv (K H locs hI ls hl)
theorem gx_dup_x1 (C : gC Z cc nL own ret F N) {v u : Value} (d : decode cc pc = .ok (.dup_x1, 1)) (hv : v.category = 1) (hu : u.category = 1) (K : gG Z nL I k n (pc + 1) lv (v :: u :: v :: stk)) : gG Z nL I k n pc lv (v :: u :: stk) := fun H locs hI ls hl => lv_dup_x1 C.x C.b d hv hu (K H locs hI ls hl)
theorem gx_goto (C : gC Z cc nL own ret F N) {off : Int} {tgt : Nat} (d : decode cc pc = .ok (.goto off, 3)) (ht : (pc : Int) + off = (tgt : Int)) (K : gG Z nL I k n tgt lv stk) : gG Z nL I k n pc lv stk := fun H locs hI ls hl => lv_goto C.x C.b d ht (K H locs hI ls hl)
theorem gx_if_eq (C : gC Z cc nL own ret F N) {x : Int} {off : Int} {tgt : Nat} (d : decode cc pc = .ok (.ifCond .eq off, 3)) (ht : (pc : Int) + off = (tgt : Int)) (hx : R32 x) (kt : x = 0 → gG Z nL I k n tgt lv stk) (kf : ¬ x = 0 → gG Z nL I k n (pc + 3) lv stk) : gG Z nL I k n pc lv (.int (i32 x) :: stk) := fun H locs hI ls hl => lv_if_eq C.x C.b d ht (fun h => kt ((i32_eq hx R32_0).mp h) H locs hI ls hl) (fun h => kf (fun q => h ((i32_eq hx R32_0).mpr q)) H locs hI ls hl)
theorem gx_if_ne (C : gC Z cc nL own ret F N) {x : Int} {off : Int} {tgt : Nat} (d : decode cc pc = .ok (.ifCond .ne off, 3)) (ht : (pc : Int) + off = (tgt : Int)) (hx : R32 x) (kt : ¬ x = 0 → gG Z nL I k n tgt lv stk) (kf : x = 0 → gG Z nL I k n (pc + 3) lv stk) : gG Z nL I k n pc lv (.int (i32 x) :: stk) := fun H locs hI ls hl => lv_if_ne C.x C.b d ht (fun h => kt (fun q => h ((i32_eq hx R32_0).mpr q)) H locs hI ls hl) (fun h => kf ((i32_eq hx R32_0).mp h) H locs hI ls hl)
theorem gx_if_lt (C : gC Z cc nL own ret F N) {x : Int} {off : Int} {tgt : Nat} (d : decode cc pc = .ok (.ifCond .lt off, 3)) (ht : (pc : Int) + off = (tgt : Int)) (hx : R32 x) (kt : x < 0 → gG Z nL I k n tgt lv stk) (kf : 0 ≤ x → gG Z nL I k n (pc + 3) lv stk) : gG Z nL I k n pc lv (.int (i32 x) :: stk) := fun H locs hI ls hl => lv_if_lt C.x C.b d ht (fun h => kt ((i32_lt hx R32_0).mp h) H locs hI ls hl) (fun h => kf (Int.not_lt.mp (fun q => h ((i32_lt hx R32_0).mpr q))) H locs hI ls hl)
theorem gx_if_ge (C : gC Z cc nL own ret F N) {x : Int} {off : Int} {tgt : Nat} (d : decode cc pc = .ok (.ifCond .ge off, 3)) (ht : (pc : Int) + off = (tgt : Int)) (hx : R32 x) (kt : 0 ≤ x → gG Z nL I k n tgt lv stk) (kf : x < 0 → gG Z nL I k n (pc + 3) lv stk) : gG Z nL I k n pc lv (.int (i32 x) :: stk) := fun H locs hI ls hl => lv_if_ge C.x C.b d ht (fun h => kt ((i32_le R32_0 hx).mp h) H locs hI ls hl) (fun h => kf (Int.not_le.mp (fun q => h ((i32_le R32_0 hx).mpr q))) H locs hI ls hl)
theorem gx_if_gt (C : gC Z cc nL own ret F N) {x : Int} {off : Int} {tgt : Nat} (d : decode cc pc = .ok (.ifCond .gt off, 3)) (ht : (pc : Int) + off = (tgt : Int)) (hx : R32 x) (kt : 0 < x → gG Z nL I k n tgt lv stk) (kf : x ≤ 0 → gG Z nL I k n (pc + 3) lv stk) : gG Z nL I k n pc lv (.int (i32 x) :: stk) := fun H locs hI ls hl => lv_if_gt C.x C.b d ht (fun h => kt ((i32_lt R32_0 hx).mp h) H locs hI ls hl) (fun h => kf (Int.not_lt.mp (fun q => h ((i32_lt R32_0 hx).mpr q))) H locs hI ls hl)
theorem gx_if_le (C : gC Z cc nL own ret F N) {x : Int} {off : Int} {tgt : Nat} (d : decode cc pc = .ok (.ifCond .le off, 3)) (ht : (pc : Int) + off = (tgt : Int)) (hx : R32 x) (kt : x ≤ 0 → gG Z nL I k n tgt lv stk) (kf : 0 < x → gG Z nL I k n (pc + 3) lv stk) : gG Z nL I k n pc lv (.int (i32 x) :: stk) := fun H locs hI ls hl => lv_if_le C.x C.b d ht (fun h => kt ((i32_le hx R32_0).mp h) H locs hI ls hl) (fun h => kf (Int.not_le.mp (fun q => h ((i32_le hx R32_0).mpr q))) H locs hI ls hl)
theorem gx_icmp_eq (C : gC Z cc nL own ret F N) {x y : Int} {off : Int} {tgt : Nat} (d : decode cc pc = .ok (.if_icmp .eq off, 3)) (ht : (pc : Int) + off = (tgt : Int)) (hx : R32 x) (hy : R32 y) (kt : x = y → gG Z nL I k n tgt lv stk) (kf : ¬ x = y → gG Z nL I k n (pc + 3) lv stk) : gG Z nL I k n pc lv (.int (i32 y) :: .int (i32 x) :: stk) := fun H locs hI ls hl => lv_icmp_eq C.x C.b d ht (fun h => kt ((i32_eq hx hy).mp h) H locs hI ls hl) (fun h => kf (fun q => h ((i32_eq hx hy).mpr q)) H locs hI ls hl)
theorem gx_icmp_ne (C : gC Z cc nL own ret F N) {x y : Int} {off : Int} {tgt : Nat} (d : decode cc pc = .ok (.if_icmp .ne off, 3)) (ht : (pc : Int) + off = (tgt : Int)) (hx : R32 x) (hy : R32 y) (kt : ¬ x = y → gG Z nL I k n tgt lv stk) (kf : x = y → gG Z nL I k n (pc + 3) lv stk) : gG Z nL I k n pc lv (.int (i32 y) :: .int (i32 x) :: stk) := fun H locs hI ls hl => lv_icmp_ne C.x C.b d ht (fun h => kt (fun q => h ((i32_eq hx hy).mpr q)) H locs hI ls hl) (fun h => kf ((i32_eq hx hy).mp h) H locs hI ls hl)
theorem gx_icmp_lt (C : gC Z cc nL own ret F N) {x y : Int} {off : Int} {tgt : Nat} (d : decode cc pc = .ok (.if_icmp .lt off, 3)) (ht : (pc : Int) + off = (tgt : Int)) (hx : R32 x) (hy : R32 y) (kt : x < y → gG Z nL I k n tgt lv stk) (kf : y ≤ x → gG Z nL I k n (pc + 3) lv stk) : gG Z nL I k n pc lv (.int (i32 y) :: .int (i32 x) :: stk) := fun H locs hI ls hl => lv_icmp_lt C.x C.b d ht (fun h => kt ((i32_lt hx hy).mp h) H locs hI ls hl) (fun h => kf (Int.not_lt.mp (fun q => h ((i32_lt hx hy).mpr q))) H locs hI ls hl)
theorem gx_icmp_ge (C : gC Z cc nL own ret F N) {x y : Int} {off : Int} {tgt : Nat} (d : decode cc pc = .ok (.if_icmp .ge off, 3)) (ht : (pc : Int) + off = (tgt : Int)) (hx : R32 x) (hy : R32 y) (kt : y ≤ x → gG Z nL I k n tgt lv stk) (kf : x < y → gG Z nL I k n (pc + 3) lv stk) : gG Z nL I k n pc lv (.int (i32 y) :: .int (i32 x) :: stk) := fun H locs hI ls hl => lv_icmp_ge C.x C.b d ht (fun h => kt ((i32_le hy hx).mp h) H locs hI ls hl) (fun h => kf (Int.not_le.mp (fun q => h ((i32_le hy hx).mpr q))) H locs hI ls hl)
theorem gx_icmp_gt (C : gC Z cc nL own ret F N) {x y : Int} {off : Int} {tgt : Nat} (d : decode cc pc = .ok (.if_icmp .gt off, 3)) (ht : (pc : Int) + off = (tgt : Int)) (hx : R32 x) (hy : R32 y) (kt : y < x → gG Z nL I k n tgt lv stk) (kf : x ≤ y → gG Z nL I k n (pc + 3) lv stk) : gG Z nL I k n pc lv (.int (i32 y) :: .int (i32 x) :: stk) := fun H locs hI ls hl => lv_icmp_gt C.x C.b d ht (fun h => kt ((i32_lt hy hx).mp h) H locs hI ls hl) (fun h => kf (Int.not_lt.mp (fun q => h ((i32_lt hy hx).mpr q))) H locs hI ls hl)
theorem gx_icmp_le (C : gC Z cc nL own ret F N) {x y : Int} {off : Int} {tgt : Nat} (d : decode cc pc = .ok (.if_icmp .le off, 3)) (ht : (pc : Int) + off = (tgt : Int)) (hx : R32 x) (hy : R32 y) (kt : x ≤ y → gG Z nL I k n tgt lv stk) (kf : y < x → gG Z nL I k n (pc + 3) lv stk) : gG Z nL I k n pc lv (.int (i32 y) :: .int (i32 x) :: stk) := fun H locs hI ls hl => lv_icmp_le C.x C.b d ht (fun h => kt ((i32_le hx hy).mp h) H locs hI ls hl) (fun h => kf (Int.not_le.mp (fun q => h ((i32_le hx hy).mpr q))) H locs hI ls hl)
theorem gx_tableOut (C : gC Z cc nL own ret F N) {dflt lo hi : Int} {offs : Array Int} {len : Nat} {x : Int} {tgt : Nat} (d : decode cc pc = .ok (.tableswitch dflt lo hi offs, len)) (hx : R32 x) (h : x < lo ∨ hi < x) (ht : (pc : Int) + dflt = (tgt : Int)) (K : gG Z nL I k n tgt lv stk) : gG Z nL I k n pc lv (.int (i32 x) :: stk) := fun H locs hI ls hl => lv_tableOut C.x C.b d (by rw [i32_to hx]; exact h) ht (K H locs hI ls hl)
theorem gx_tableIn (C : gC Z cc nL own ret F N) {dflt lo hi : Int} {offs : Array Int} {len : Nat} {x : Int} (y : Int) {off : Int} {tgt : Nat} (d : decode cc pc = .ok (.tableswitch dflt lo hi offs, len)) (hx : x = y) (hy : (i32 y).toInt = y) (h1 : ¬ y < lo) (h2 : ¬ hi < y) (ho : offs[(y - lo).toNat]? = some off) (ht : (pc : Int) + off = (tgt : Int)) (K : gG Z nL I k n tgt lv stk) : gG Z nL I k n pc lv (.int (i32 x) :: stk) := fun H locs hI ls hl => by
  subst hx
  exact lv_tableIn C.x C.b d (by rw [hy]; exact h1) (by rw [hy]; exact h2) (by rw [hy]; exact ho) ht (K H locs hI ls hl)
end GX
