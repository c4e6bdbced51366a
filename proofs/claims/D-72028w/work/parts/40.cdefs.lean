/-! the component's memory: statics of the BinderPress and its Work (ints kI, references kR: by number and place), and of all made cells tags, lengths, ints, references (by address and place) -/
abbrev CM : Type := (Nat → Nat → Int) × (Nat → Nat → Option Nat) × (Nat → Nat) × (Nat → Nat) × (Nat → Nat → Int) × (Nat → Nat → Option Nat)
def kI (μ : CM) : Nat → Nat → Int := μ.1
def kR (μ : CM) : Nat → Nat → Option Nat := μ.2.1
def tg (μ : CM) : Nat → Nat := μ.2.2.1
def ln (μ : CM) : Nat → Nat := μ.2.2.2.1
def oI (μ : CM) : Nat → Nat → Int := μ.2.2.2.2.1
def oR (μ : CM) : Nat → Nat → Option Nat := μ.2.2.2.2.2
def stq (ρ : Nat → Nat → Option Nat) (k j : Nat) (v : Option Nat) : Nat → Nat → Option Nat := fun a b => if a = k then (if b = j then v else ρ a b) else ρ a b
def up1 (f : Nat → Nat) (k v : Nat) : Nat → Nat := fun a => if a = k then v else f a
def pkI (μ : CM) (k j : Nat) (v : Int) : CM := (st (kI μ) k j v, kR μ, tg μ, ln μ, oI μ, oR μ)
def pkR (μ : CM) (k j : Nat) (v : Option Nat) : CM := (kI μ, stq (kR μ) k j v, tg μ, ln μ, oI μ, oR μ)
def poI (μ : CM) (a j : Nat) (v : Int) : CM := (kI μ, kR μ, tg μ, ln μ, st (oI μ) a j v, oR μ)
def poR (μ : CM) (a j : Nat) (v : Option Nat) : CM := (kI μ, kR μ, tg μ, ln μ, oI μ, stq (oR μ) a j v)
/-- a new cell at a, of tag t and length n, all nothing -/
def alc (μ : CM) (a t n : Nat) : CM := (kI μ, kR μ, up1 (tg μ) a t, up1 (ln μ) a n, (fun b j => if b = a then 0 else oI μ b j), (fun b j => if b = a then none else oR μ b j))
/-- classes' numbers and slots; array classes; the object; its cells; String constants; their bytes -/
abbrev cX : Type := va_G × (Nat → ClassId) × Nat × (Nat → Nat) × (Nat → Nat) × (Nat → Nat)
abbrev cX_D (X : cX) : va_G := X.1
abbrev cX_c (X : cX) : Nat → ClassId := X.2.1
abbrev cX_h (X : cX) : Nat := X.2.2.1
abbrev cX_a (X : cX) : Nat → Nat := X.2.2.2.1
abbrev cX_s (X : cX) : Nat → Nat := X.2.2.2.2.1
abbrev cX_b (X : cX) : Nat → Nat := X.2.2.2.2.2
theorem up_kI (μ : CM) (k i : Nat) (v : Int) : upd (fun j => i32 (kI μ k j)) i (i32 v) = fun j => i32 (kI (pkI μ k i v) k j) := up_st (kI μ) k i v
theorem up_oI (μ : CM) (a i : Nat) (v : Int) : upd (fun j => i32 (oI μ a j)) i (i32 v) = fun j => i32 (oI (poI μ a i v) a j) := up_st (oI μ) a i v
theorem up_kR (μ : CM) (k i : Nat) (r : Option Nat) : va_up (fun j => kR μ k j) i r = fun j => kR (pkR μ k i r) k j := by
  funext j
  unfold va_up pkR kR stq
  by_cases h : j = i
  · simp [h]
  · simp [h]
theorem up_oR (μ : CM) (a i : Nat) (r : Option Nat) : va_up (fun j => oR μ a j) i r = fun j => oR (poR μ a i r) a j := by
  funext j
  unfold va_up poR oR stq
  by_cases h : j = i
  · simp [h]
  · simp [h]
/-- abstract values: an int, a long, a reference -/
abbrev AV : Type := Int ⊕ Int ⊕ Option Nat
abbrev aI (x : Int) : AV := .inl x
abbrev aL (x : Int) : AV := .inr (.inl x)
abbrev aR (r : Option Nat) : AV := .inr (.inr r)
def toV (v : AV) : Value := match v with
  | .inl x => .int (i32 x)
  | .inr (.inl x) => .long (i64 x)
  | .inr (.inr r) => va_rf r
def avc (v : AV) : Nat := match v with
  | .inr (.inl _) => 2
  | _ => 1
theorem va_rf_cat (r : Option Nat) : (va_rf r).category = 1 := by cases r <;> rfl
theorem toV_cat (v : AV) : (toV v).category = avc v := by
  rcases v with x | x | r
  · rfl
  · rfl
  · exact va_rf_cat r
def toL (L : List (Nat × AV)) : List (Nat × Value) := L.map (fun q => (q.1, toV q.2))
/-- the judgement over abstract values -/
def hG (Z : zz) (nL : Nat) (I : Heap → List Loc → Prop) (k n pc : Nat) (L : List (Nat × AV)) (S : List AV) : Prop := gG Z nL I k n pc (toL L) (S.map toV)
theorem toL_at {L : List (Nat × AV)} {j i : Nat} {v : AV} (h : L[j]? = some (i, v)) : (toL L)[j]? = some (i, toV v) := by
  unfold toL
  rw [List.getElem?_map, h]
  rfl
theorem toL_filter (L : List (Nat × AV)) (i : Nat) : (toL L).filter (fun q => !(q.1 == i) && !(q.1 + 1 == i && q.2.category == 2)) = toL (L.filter (fun q => !(q.1 == i) && !(q.1 + 1 == i && avc q.2 == 2))) := by
  unfold toL
  rw [List.filter_map]
  congr 1
  apply List.filter_congr
  intro q _
  simp only [Function.comp, toV_cat]
theorem toL_pick (L : List (Nat × AV)) (ks : List Nat) : lv_pick (toL L) ks = toL (ks.filterMap (fun k => L[k]?)) := by
  unfold lv_pick toL
  rw [List.map_filterMap]
  congr 1
  funext k
  rw [List.getElem?_map]
/-- the byte of an int, signed -/
def io_byte (x : Int) : Int := ((i32 x).toInt8.toInt32).toInt
section GX2
variable {Z : zz} {cc : ByteArray} {nL : Nat} {own : String} {ret : Option FieldType} {F N : Nat} {I : Heap → List Loc → Prop} {k n pc : Nat} {lv : List (Nat × Value)} {stk : List Value}
theorem gx_i2b (C : gC Z cc nL own ret F N) {x : Int} (d : decode cc pc = .ok (.i2b, 1)) (K : gG Z nL I k n (pc + 1) lv (.int (i32 (io_byte x)) :: stk)) : gG Z nL I k n pc lv (.int (i32 x) :: stk) := fun H locs hI ls hl => lv_i2b C.x C.b d (by unfold io_byte; exact (Int32.ofInt_toInt _).symm) (K H locs hI ls hl)
theorem gx_i2c (C : gC Z cc nL own ret F N) {x : Int} (d : decode cc pc = .ok (.i2c, 1)) (hx : 0 ≤ x ∧ x < 65536) (K : gG Z nL I k n (pc + 1) lv (.int (i32 x) :: stk)) : gG Z nL I k n pc lv (.int (i32 x) :: stk) := fun H locs hI ls hl => lv_i2c C.x C.b d (by
  rw [i32_nI hx.1, pk_char, pk_tn (by omega), Nat.mod_eq_of_lt (by omega)]) (K H locs hI ls hl)
end GX2
