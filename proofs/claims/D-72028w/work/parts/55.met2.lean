/-! entry of a method, with the arguments over abstract values -/
def av_args : Nat → List AV → List (Nat × AV)
  | _, [] => []
  | i, v :: vs => (i, v) :: av_args (if avc v = 2 then i + 2 else i + 1) vs
theorem av_args_eq (As : List AV) : ∀ i, lv_args i (As.map toV) = toL (av_args i As) := by
  induction As with
  | nil => intro i; rfl
  | cons v vs ih =>
    intro i
    show (i, toV v) :: lv_args (if (toV v).category = 2 then i + 2 else i + 1) (vs.map toV) = (i, toV v) :: toL (av_args (if avc v = 2 then i + 2 else i + 1) vs)
    rw [toV_cat, ih]
theorem av_sl (As : List AV) : (lg_sl (As.map toV)).length = (As.map avc).sum := by
  induction As with
  | nil => rfl
  | cons v vs ih =>
    have h : lg_sl ((v :: vs).map toV) = (if (toV v).category = 2 then [.val (toV v), .second] else [.val (toV v)]) ++ lg_sl (vs.map toV) := rfl
    rw [h, List.length_append, ih, toV_cat]
    rcases v with x | x | r
    · rfl
    · rfl
    · rfl
theorem av_W (S : List AV) (n : Nat) (h : (S.map avc).sum ≤ n) : ((S.map toV).map fun v => v.category).sum ≤ n := by
  have e : ((S.map toV).map fun v => v.category) = S.map avc := by
    rw [List.map_map]
    apply List.map_congr_left
    intro v _
    exact toV_cat v
  rw [e]
  exact h
theorem cx_met2 {X : cX} {μ : CM} {cc : ByteArray} {nL : Nat} {own : String} {ret : Option FieldType} {l : Launch} {y : MethodName} {rm : Room} {As : List AV} {L0 : List (Nat × AV)} {sz : Nat} {Qc : Array Value → State → Outcome → State → Prop} (hy : plainName y.cls = true) (hcl : y.cls = own) (hlen : (As.map avc).sum ≤ nL) (hlv : av_args 0 As = L0) (body : ∀ Z : zz, gC Z cc nL own ret rm.frames rm.locals → cCt Z X μ → (zz_s Z).heap.size = sz → (zz_R Z) = rm → zz_l Z = l → (zz_t Z).name = y.name → zz_q Z = MQ (zz_b Z) Qc (zz_a Z) (zz_s Z) rm.cells rm.slots (cA X μ sz) → hG Z nL (cI Z X μ μ) 0 0 0 L0 []) : Met l y (ws_ y cc nL ret) rm (cPc X (As.map toV) μ sz) Qc rm.cells rm.slots (cA X μ sz) :=
  cx_met hy hcl (by rw [av_sl]; exact hlen) (by rw [av_args_eq, hlv]) body
