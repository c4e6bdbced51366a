/-! a cell of the component, wherever it is; stores into it -/
def cEn (X : cX) (μ : CM) (a : Nat) (e : va_E) : Prop := (∃ k : Nat, (csW X μ)[k]? = some (a, e)) ∨ cdE X μ a = some e
def cUp (X : cX) (μ : CM) (a : Nat) (e e' : va_E) (μ' : CM) : Prop :=
  (∃ k : Nat, (csW X μ)[k]? = some (a, e) ∧ (csW X μ).set k (a, e') = csW X μ' ∧ tg μ' = tg μ ∧ ln μ' = ln μ ∧ oI μ' = oI μ ∧ oR μ' = oR μ) ∨
  (cdE X μ a = some e ∧ csW X μ' = csW X μ ∧ tg μ' = tg μ ∧ ln μ' = ln μ ∧ (∀ b, b ≠ a → oI μ' b = oI μ b) ∧ (∀ b, b ≠ a → oR μ' b = oR μ b) ∧ cdE X μ' a = some e')
theorem cEn.at {X : cX} {μ : CM} {H : Heap} (h : cRep X μ H) {a : Nat} {e : va_E} (he : cEn X μ a e) : ∃ q : Nat, (cW X μ H.size)[q]? = some (a, e) := by
  rcases he with ⟨k, hk⟩ | he
  · exact ⟨k, cW_at hk⟩
  · obtain ⟨j, hj, -⟩ := cW_get h he
    exact ⟨12 + j, hj⟩
theorem cUp.up {Z : zz} {X : cX} {μ0 μ μ' : CM} {H : Heap} {locs : List Loc} {a : Nat} {e e' : va_E} (hI : cI Z X μ0 μ H locs) (hu : cUp X μ a e e' μ') : ∃ q : Nat, (cW X μ H.size)[q]? = some (a, e) ∧ ∀ (H1 : Heap) (locs1 : List Loc), va_P (cX_D X) cCl ((cW X μ H.size).set q (a, e')) H1 → va_S (cA X μ0 (zz_s Z).heap.size) (zz_s Z).heap H1 locs1 → cI Z X μ0 μ' H1 locs1 := by
  rcases hu with ⟨k, hk, hs, h1, h2, h3, h4⟩ | ⟨he, hs, h1, h2, h3, h4, h5⟩
  · have hlt : k < 12 := by have := (List.getElem?_eq_some_iff.mp hk).1; rw [csW_len] at this; exact this
    exact ⟨k, cW_at hk, fun H1 locs1 hP hS => cI_sta hI hlt hP hS hs h1 h2 h3 h4⟩
  · obtain ⟨j, hj, hj2⟩ := cW_get hI.1 he
    exact ⟨12 + j, hj, fun H1 locs1 hP hS => cI_dyn hI hj2 hP hS hs h1 h2 h3 h4 h5⟩
theorem cu_oI {X : cX} {μ : CM} {a i : Nat} {v : Int} (h : tg μ a = 20) : cUp X μ a (.inl (cX_c X 0, ln μ a, .inl (fun j => i32 (oI μ a j)))) (.inl (cX_c X 0, ln μ a, .inl (upd (fun j => i32 (oI μ a j)) i (i32 v)))) (poI μ a i v) :=
  Or.inr ⟨cdA_0 h, rfl, rfl, rfl, fun _ hb => st_o hb, fun _ _ => rfl, by rw [up_oI]; exact cdA_0 h⟩
theorem cu_oB {X : cX} {μ : CM} {a i : Nat} {v : Int} (h : tg μ a = 21) : cUp X μ a (.inl (cX_c X 1, ln μ a, .inl (fun j => i32 (oI μ a j)))) (.inl (cX_c X 1, ln μ a, .inl (upd (fun j => i32 (oI μ a j)) i (i32 v)))) (poI μ a i v) :=
  Or.inr ⟨cdA_1 h, rfl, rfl, rfl, fun _ hb => st_o hb, fun _ _ => rfl, by rw [up_oI]; exact cdA_1 h⟩
theorem cu_oT {X : cX} {μ : CM} {a i : Nat} {r : Option Nat} (h : tg μ a = 22) : cUp X μ a (.inl (cX_c X 2, ln μ a, .inr (.inr (.inr (.inr (fun j => oR μ a j)))))) (.inl (cX_c X 2, ln μ a, .inr (.inr (.inr (.inr (va_up (fun j => oR μ a j) i r)))))) (poR μ a i r) :=
  Or.inr ⟨cdA_2 h, rfl, rfl, rfl, fun _ _ => rfl, fun _ hb => stq_o hb, by rw [up_oR]; exact cdA_2 h⟩
theorem cu_oK {X : cX} {μ : CM} {a i : Nat} {r : Option Nat} (h : tg μ a = 25) : cUp X μ a (.inl (cX_c X 5, ln μ a, .inr (.inr (.inr (.inr (fun j => oR μ a j)))))) (.inl (cX_c X 5, ln μ a, .inr (.inr (.inr (.inr (va_up (fun j => oR μ a j) i r)))))) (poR μ a i r) :=
  Or.inr ⟨cdA_5 h, rfl, rfl, rfl, fun _ _ => rfl, fun _ hb => stq_o hb, by rw [up_oR]; exact cdA_5 h⟩
theorem cu_S {X : cX} {μ μ' : CM} {a : Nat} {e e' : va_E} (k : Nat) (hk : (csW X μ)[k]? = some (a, e)) (hs : (csW X μ).set k (a, e') = csW X μ') (h1 : tg μ' = tg μ) (h2 : ln μ' = ln μ) (h3 : oI μ' = oI μ) (h4 : oR μ' = oR μ) : cUp X μ a e e' μ' := Or.inl ⟨k, hk, hs, h1, h2, h3, h4⟩
section CX2
variable {Z : zz} {X : cX} {μ0 μ μ' : CM} {cc : ByteArray} {nL : Nat} {own : String} {ret : Option FieldType} {F N kk nn pc : Nat} {L : List (Nat × AV)} {S : List AV} {a len : Nat}
theorem cx_iald (C : gC Z cc nL own ret F N) (hK : cCt Z X μ0) {f : Nat → Int} (he : cEn X μ a (.inl (cX_c X 0, len, .inl (fun j => i32 (f j))))) {i : Int} (h0 : 0 ≤ i) (h1 : i < (len : Int)) (hlen : len < 2147483648) (d : decode cc pc = .ok (.iaload, 1)) (K : hG Z nL (cI Z X μ0 μ) kk nn (pc + 1) L (aI (f i.toNat) :: S)) : hG Z nL (cI Z X μ0 μ) kk nn pc L (aI i :: aR (some a) :: S) := fun H locs hI ls hl => by
  obtain ⟨q, hq⟩ := he.at hI.1
  exact va_iald C.x C.b hK.1.1 (hI.1.P H.size) q 0 hq rfl (i32_in h0 h1 hlen) d (by rw [i32_ix h0 h1 hlen]; exact K H locs hI ls hl)
theorem cx_bald (C : gC Z cc nL own ret F N) (hK : cCt Z X μ0) {f : Nat → Int} (he : cEn X μ a (.inl (cX_c X 1, len, .inl (fun j => i32 (f j))))) {i : Int} (h0 : 0 ≤ i) (h1 : i < (len : Int)) (hlen : len < 2147483648) (d : decode cc pc = .ok (.baload, 1)) (K : hG Z nL (cI Z X μ0 μ) kk nn (pc + 1) L (aI (f i.toNat) :: S)) : hG Z nL (cI Z X μ0 μ) kk nn pc L (aI i :: aR (some a) :: S) := fun H locs hI ls hl => by
  obtain ⟨q, hq⟩ := he.at hI.1
  exact va_bald C.x C.b hK.1.1 (hI.1.P H.size) q 1 hq rfl (i32_in h0 h1 hlen) d (by rw [i32_ix h0 h1 hlen]; exact K H locs hI ls hl)
theorem cx_aald (C : gC Z cc nL own ret F N) (hK : cCt Z X μ0) (c : Nat) {E : String} (ht : (cTy X)[c]? = some (cX_c X c, .object E)) {f : Nat → Option Nat} (he : cEn X μ a (.inl (cX_c X c, len, .inr (.inr (.inr (.inr f)))))) {i : Int} (h0 : 0 ≤ i) (h1 : i < (len : Int)) (hlen : len < 2147483648) (d : decode cc pc = .ok (.aaload, 1)) (K : hG Z nL (cI Z X μ0 μ) kk nn (pc + 1) L (aR (f i.toNat) :: S)) : hG Z nL (cI Z X μ0 μ) kk nn pc L (aI i :: aR (some a) :: S) := fun H locs hI ls hl => by
  obtain ⟨q, hq⟩ := he.at hI.1
  exact va_aldq C.x C.b hK.1.1 (hI.1.P H.size) q c hq ht (i32_in h0 h1 hlen) d (by rw [i32_ix h0 h1 hlen]; exact K H locs hI ls hl)
/-- an element of an array of arrays -/
theorem cx_aaldA (C : gC Z cc nL own ret F N) (hK : cCt Z X μ0) {f : Nat → Option Nat} (he : cEn X μ a (.inl (cX_c X 4, len, .inr (.inr (.inr (.inr f)))))) {i : Int} (h0 : 0 ≤ i) (h1 : i < (len : Int)) (hlen : len < 2147483648) (d : decode cc pc = .ok (.aaload, 1)) (K : hG Z nL (cI Z X μ0 μ) kk nn (pc + 1) L (aR (f i.toNat) :: S)) : hG Z nL (cI Z X μ0 μ) kk nn pc L (aI i :: aR (some a) :: S) := fun H locs hI ls hl => by
  obtain ⟨q, hq⟩ := he.at hI.1
  have hin := i32_in h0 h1 hlen
  have hlt : (i32 i).toNatClampNeg < len := Nat.not_le.mp fun q => hin (Or.inr q)
  exact W.aald (v := va_rf (f (i32 i).toNatClampNeg)) (ty := .array (.object "BinderPress$Term")) C.x C.b (hI.1.P H.size q _ hq) ((hK.1.1.2 4 _ rfl).1 len (fun j => va_rf (f j))) rfl (fun q => by cases q) (by show ¬ (i32 i < 0 ∨ (arrV _ _ _).slots.size ≤ _); rw [arrV_size]; exact hin) (by show (arrV _ _ _).slots[_]? = _; rw [arrV_read _ _ hlt]) rfl rfl d (by rw [i32_ix h0 h1 hlen]; exact K H locs hI ls hl)
theorem cx_alen (C : gC Z cc nL own ret F N) (hK : cCt Z X μ0) (c : Nat) {ty : FieldType} (ht : (cTy X)[c]? = some (cX_c X c, ty)) {x : (Nat → Int32) ⊕ (Nat → Int64) ⊕ (Nat → UInt32) ⊕ (Nat → UInt64) ⊕ (Nat → Option Nat)} (he : cEn X μ a (.inl (cX_c X c, len, x))) (d : decode cc pc = .ok (.arraylength, 1)) (K : hG Z nL (cI Z X μ0 μ) kk nn (pc + 1) L (aI (len : Int) :: S)) : hG Z nL (cI Z X μ0 μ) kk nn pc L (aR (some a) :: S) := fun H locs hI ls hl => by
  obtain ⟨q, hq⟩ := he.at hI.1
  exact va_alen (v := i32 (len : Int)) C.x C.b hK.1.1 (hI.1.P H.size) q c hq ht rfl d (K H locs hI ls hl)
theorem cx_iast (C : gC Z cc nL own ret F N) (hK : cCt Z X μ0) {f : Nat → Int32} {i v : Int} (hu : cUp X μ a (.inl (cX_c X 0, len, .inl f)) (.inl (cX_c X 0, len, .inl (upd f i.toNat (i32 v)))) μ') (h0 : 0 ≤ i) (h1 : i < (len : Int)) (hlen : len < 2147483648) (d : decode cc pc = .ok (.iastore, 1)) (K : hG Z nL (cI Z X μ0 μ') kk nn (pc + 1) L S) : hG Z nL (cI Z X μ0 μ) kk nn pc L (aI v :: aI i :: aR (some a) :: S) := fun H locs hI ls hl => by
  obtain ⟨q, hq, up⟩ := hu.up hI
  exact va_iast C.x C.b hK.1.1 (hI.1.P H.size) (cI_D hK hI) hI.2.1 q 0 hq rfl (i32_in h0 h1 hlen) d (fun H1 locs1 hP _ hS => K H1 locs1 (up H1 locs1 (by rw [i32_ix h0 h1 hlen] at hP; exact hP) hS) ls hl)
theorem io_byte_nar (v : Int) : vp_nar .byte (i32 v) = i32 (io_byte v) := by
  rw [vp_nar_byte]
  exact (Int32.ofInt_toInt _).symm
theorem cx_bast (C : gC Z cc nL own ret F N) (hK : cCt Z X μ0) {f : Nat → Int32} {i v : Int} (hu : cUp X μ a (.inl (cX_c X 1, len, .inl f)) (.inl (cX_c X 1, len, .inl (upd f i.toNat (i32 (io_byte v))))) μ') (h0 : 0 ≤ i) (h1 : i < (len : Int)) (hlen : len < 2147483648) (d : decode cc pc = .ok (.bastore, 1)) (K : hG Z nL (cI Z X μ0 μ') kk nn (pc + 1) L S) : hG Z nL (cI Z X μ0 μ) kk nn pc L (aI v :: aI i :: aR (some a) :: S) := fun H locs hI ls hl => by
  obtain ⟨q, hq, up⟩ := hu.up hI
  exact va_bast C.x C.b hK.1.1 (hI.1.P H.size) (cI_D hK hI) hI.2.1 q 1 hq rfl (i32_in h0 h1 hlen) d (fun H1 locs1 hP _ hS => K H1 locs1 (up H1 locs1 (by rw [i32_ix h0 h1 hlen, io_byte_nar] at hP; exact hP) hS) ls hl)
/-- whose class can stand in an array of E's -/
def cany (X : cX) (E : String) (μ : CM) (r : Option Nat) : Prop := ∀ v, r = some v → ∃ ci Cn T Nn fs, cdE X μ v = some (.inr (ci, fs)) ∧ cCl[ci]? = some (Cn, T, Nn) ∧ (Cond.castable Cn E ∈ cNw ∨ Cn = E)
theorem cany.any {H : Heap} {locs : List Loc} {E : String} {v : Nat} (hK : cCt Z X μ0) (hI : cI Z X μ0 μ H locs) (h : cany X E μ (some v)) : va_Any E (zz_s Z) H v := by
  obtain ⟨ci, Cn, T, Nn, fs, he, hc, hw⟩ := h v rfl
  obtain ⟨j, hj, -⟩ := cW_get hI.1 he
  refine va_rAny hK.1.1 (hI.1.P H.size) hj hc (fun comp c0 h1 h2 => ?_)
  rcases hw with hw | hw
  · obtain ⟨c1, t1, f1, f2, f3⟩ := Cond.castable_spec (hK.1.2.2.1 _ hw)
    have e1 : c1 = c0 := Option.some.inj (f1.symm.trans h2)
    have e2 : t1 = comp := Option.some.inj (f2.symm.trans h1)
    rw [← e1, ← e2]
    exact f3
  · have hat := (hK.1.1.1 ci _ hc).2
    have e1 : comp = c0 := Option.some.inj (h1.symm.trans (by rw [← hw]; exact h2))
    have e2 : (cX_D X).1 ci = c0 := Option.some.inj (hat.1.symm.trans h2)
    rw [e1, ← e2]
    exact va_assign hat
theorem cx_aast (C : gC Z cc nL own ret F N) (hK : cCt Z X μ0) (c : Nat) {E : String} (ht : (cTy X)[c]? = some (cX_c X c, .object E)) {f : Nat → Option Nat} {i : Int} {r : Option Nat} (hu : cUp X μ a (.inl (cX_c X c, len, .inr (.inr (.inr (.inr f))))) (.inl (cX_c X c, len, .inr (.inr (.inr (.inr (va_up f i.toNat r)))))) μ') (hr : cany X E μ r) (h0 : 0 ≤ i) (h1 : i < (len : Int)) (hlen : len < 2147483648) (d : decode cc pc = .ok (.aastore, 1)) (K : hG Z nL (cI Z X μ0 μ') kk nn (pc + 1) L S) : hG Z nL (cI Z X μ0 μ) kk nn pc L (aR r :: aI i :: aR (some a) :: S) := fun H locs hI ls hl => by
  obtain ⟨q, hq, up⟩ := hu.up hI
  cases r with
  | none => exact va_astqN C.x C.b hK.1.1 (hI.1.P H.size) (cI_D hK hI) hI.2.1 q c hq ht (i32_in h0 h1 hlen) d (fun H1 locs1 hP _ hS => K H1 locs1 (up H1 locs1 (by rw [i32_ix h0 h1 hlen] at hP; exact hP) hS) ls hl)
  | some v => exact va_astqM C.x C.b hK.1.1 (hI.1.P H.size) (cI_D hK hI) hI.2.1 q c hq ht (hr.any hK hI) (i32_in h0 h1 hlen) d (fun H1 locs1 hP _ hS => K H1 locs1 (up H1 locs1 (by rw [i32_ix h0 h1 hlen] at hP; exact hP) hS) ls hl)
/-- receivers -/
theorem cv_dyn {H : Heap} {locs : List Loc} (hK : cCt Z X μ0) (hI : cI Z X μ0 μ H locs) {ci : Nat} {q : vw_C} (hc : cCl[ci]? = some q) {fs : List Value} (he : cEn X μ a (.inr (ci, fs))) : ∃ cell : Cell, H[a]? = some cell ∧ cell.vm.isStatics = false ∧ (zz_s Z).vm.findClass q.1 = some cell.cls := by
  obtain ⟨j, hj⟩ := he.at hI.1
  exact va_recv hK.1.1 (hI.1.P H.size) hc hj
theorem cv_kon {H : Heap} {locs : List Loc} (hK : cCt Z X μ0) (hI : cI Z X μ0 μ H locs) (h : tg μ a = 14) : ∃ cell : Cell, H[a]? = some cell ∧ cell.vm.isStatics = false ∧ (zz_s Z).vm.findClass "java/lang/String" = some cell.cls := by
  obtain ⟨cell, h1, h2, h3, -⟩ := ((((hK.2.1.kept hI.2.1.2.1).to hI.2.2.2.1).1 a h).1)
  exact ⟨cell, h1, h2, h3⟩
/-- returns -/
theorem cI_bk {H : Heap} {locs : List Loc} {t : State} (hI : cI Z X μ0 μ H locs) (ht : t.heap = H) : cBk X μ0 (zz_s Z).heap.size μ t := ⟨by rw [ht]; exact hI.1, hI.2.2.1, hI.2.2.2.1, hI.2.2.2.2⟩
theorem cx_iret {mc ms : Nat} {ty : FieldType} {Q : Int → CM → Prop} (C : gC Z cc nL own (some ty) F N) (hQ : zz_q Z = MQ (zz_b Z) (cQi X μ0 (zz_s Z).heap.size Q) (zz_a Z) (zz_s Z) mc ms (cA X μ0 (zz_s Z).heap.size)) (h1 : kk ≤ mc) (h2 : nn ≤ ms) {r : Int} (hn : narrow ty (.int (i32 r)) = .int (i32 r)) (hq : Q r μ) (d : decode cc pc = .ok (.ireturn, 1)) : hG Z nL (cI Z X μ0 μ) kk nn pc L [aI r] := fun H locs hI ls hl => W.widen h1 h2 (by
  rw [hQ]
  exact W.zret C.x C.b C.r hn (fun t ht hW => ⟨⟨i32 r, (r, μ), rfl, ⟨rfl, hq⟩, cI_bk hI ht⟩, hI.2.1.F ht⟩) hI.2.1.2.2 d C.lk)
theorem cx_aret {mc ms : Nat} {ty : FieldType} {Q : Option Nat → CM → Prop} (C : gC Z cc nL own (some ty) F N) (hQ : zz_q Z = MQ (zz_b Z) (cQr X μ0 (zz_s Z).heap.size Q) (zz_a Z) (zz_s Z) mc ms (cA X μ0 (zz_s Z).heap.size)) (h1 : kk ≤ mc) (h2 : nn ≤ ms) {r : Option Nat} (hty : (∃ n, ty = .object n) ∨ ∃ t, ty = .array t) (hq : Q r μ) (d : decode cc pc = .ok (.areturn, 1)) : hG Z nL (cI Z X μ0 μ) kk nn pc L [aR r] := fun H locs hI ls hl => W.widen h1 h2 (by
  rw [hQ]
  exact W.aret C.x C.b C.r hty (by cases r with
    | none => exact Or.inl rfl
    | some v => exact Or.inr ⟨v, rfl⟩) (fun t ht hW => ⟨⟨r, μ, rfl, hq, cI_bk hI ht⟩, hI.2.1.F ht⟩) hI.2.1.2.2 d C.lk)
theorem cx_vret {mc ms : Nat} {Q : CM → Prop} (C : gC Z cc nL own none F N) (hQ : zz_q Z = MQ (zz_b Z) (cQv X μ0 (zz_s Z).heap.size Q) (zz_a Z) (zz_s Z) mc ms (cA X μ0 (zz_s Z).heap.size)) (h1 : kk ≤ mc) (h2 : nn ≤ ms) (hq : Q μ) (d : decode cc pc = .ok (.return_, 1)) : hG Z nL (cI Z X μ0 μ) kk nn pc L [] := fun H locs hI ls hl => W.widen h1 h2 (by
  rw [hQ]
  exact W.vret C.x C.b C.r (fun t ht hW => ⟨⟨μ, rfl, hq, cI_bk hI ht⟩, hI.2.1.F ht⟩) hI.2.1.2.2 d C.lk)
theorem cx_met {l : Launch} {y : MethodName} {rm : Room} {As : List AV} {L0 : List (Nat × AV)} {sz : Nat} {Qc : Array Value → State → Outcome → State → Prop} (hy : plainName y.cls = true) (hcl : y.cls = own) (hlen : (lg_sl (As.map toV)).length ≤ nL) (hlv : lv_args 0 (As.map toV) = toL L0) (body : ∀ Z : zz, gC Z cc nL own ret rm.frames rm.locals → cCt Z X μ → (zz_s Z).heap.size = sz → (zz_R Z) = rm → zz_l Z = l → (zz_t Z).name = y.name → zz_q Z = MQ (zz_b Z) Qc (zz_a Z) (zz_s Z) rm.cells rm.slots (cA X μ sz) → hG Z nL (cI Z X μ μ) 0 0 0 L0 []) : Met l y (ws_ y cc nL ret) rm (cPc X (As.map toV) μ sz) Qc rm.cells rm.slots (cA X μ sz) := by
  refine Met.ofW (cc := cc) (maxL := nL) (ret := ret) hy rfl ?_
  intro p e s m args below meth c s₁ B hml hv
  obtain ⟨rfl, hsz, hP, hK, hH, hwf⟩ := hv
  subst hsz
  have hts := atoms_spec (ws := ws_ y cc nL ret) B.pre
  have hts : ∀ w ∈ lw_all, w.before _ s = true := fun w h => hts w (List.mem_cons_of_mem _ h)
  have hown : s.vm.findClass own = some m.cls := by
    have h := findClass_of_methodNamed B.named
    rw [hcl] at h
    exact h
  have hl := lv_entry (As.map toV) (n := nL) hlen
  rw [hlv] at hl
  rw [lg_entry_eq]
  exact body (p, l, e, (headSpec (ws_ y cc nL ret) rm).room, s, m, (As.map toV).toArray, below, meth, c, MQ below Qc (As.map toV).toArray s rm.cells rm.slots (cA X μ s.heap.size)) ⟨B.exec, B.bytes, hml, hown, hts, B.returns, B.notSynchronized, Nat.le_refl _, Nat.le_refl _⟩ ⟨hK, hH⟩ rfl rfl rfl (name_of_methodNamed B.named B.method).1 rfl s.heap [] ⟨hP, va_S.rf, fun q h => Or.inl h, cst.rf, hwf⟩ _ hl
end CX2
