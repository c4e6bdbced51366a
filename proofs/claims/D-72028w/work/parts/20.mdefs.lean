/-! the state of a BinderPressModel: field number, place -> number -/
abbrev MS : Type := Nat → Nat → Int
def st (σ : MS) (k j : Nat) (v : Int) : MS := fun a b => if a = k then (if b = j then v else σ a b) else σ a b
theorem up_st (σ : MS) (k i : Nat) (v : Int) : upd (fun j => i32 (σ k j)) i (i32 v) = fun j => i32 (st σ k i v k j) := by
  funext j
  unfold upd st
  by_cases h : j = i
  · simp [h]
  · simp [h]
/-- classes' numbers and slots, the classes of int and boolean arrays, the object, its arrays -/
abbrev mX : Type := va_G × ClassId × ClassId × Nat × (Nat → Nat)
abbrev mX_D (X : mX) : va_G := X.1
abbrev mX_I (X : mX) : ClassId := X.2.1
abbrev mX_Z (X : mX) : ClassId := X.2.2.1
abbrev mX_h (X : mX) : Nat := X.2.2.2.1
abbrev mX_a (X : mX) : Nat → Nat := X.2.2.2.2
abbrev mCl : List vw_C := [(RX2, TX2, 37)]
