/-! Object's constructor, constants, casts, resolution through an interface -/
theorem alc_kp {μ : CM} {a b c t m : Nat} (hb : tg μ b = 0) (ha : tg μ a = c) (hc : c ≠ 0) : tg (alc μ b t m) a = c := by
  have h : a ≠ b := fun e => by rw [e, hb] at ha; exact hc ha.symm
  rw [(alc_o h).1, ha]
/-- a method found through a class that takes it from an interface: what a call selects -/
theorem sel_via {args : Array Value} {s : State} {cls : String} {x y z : MethodName} (hn : x.name = z.name ∧ x.desc = z.desc) (hsm : (Cond.sameMethod x.cls z.cls x.name x.desc).before args s = true) (hif : (Cond.interfaceMethod z.cls z.cls z.name z.desc).before #[] s = true) (hs : (Cond.selects cls z y).before args s = true) : (Cond.selects cls x y).before args s = true := by
  obtain ⟨c1, ck, r, -, -, -, hf, hm⟩ := Cond.sameMethod_found hsm
  obtain ⟨c2, k2, r2, -, -, -, hf2, hm2⟩ := Cond.interfaceMethod_spec hif
  rw [hn.1, hn.2] at hm hf
  have e : r2 = r := Option.some.inj (hm2.symm.trans hm)
  subst e
  simp only [Cond.before, Cond.holds, Cond.value] at hs ⊢
  rw [hf2] at hs
  rw [hn.1, hn.2, hf]
  exact hs
section CX4
variable {Z : zz} {X : cX} {μ0 μ μ' : CM} {cc : ByteArray} {nL : Nat} {own : String} {ret : Option FieldType} {F N kk nn pc : Nat} {L : List (Nat × AV)} {S : List AV} {a len : Nat}
theorem cx_objInit (C : gC Z cc nL own ret F N) {idx : Nat} (hq : Cond.methodLink own idx Lib.objectInit ∈ lw_all) (h1 : Cond.instanceMethod Lib.objectInit ∈ lw_all) (h2 : Cond.code Lib.objectInit ⟨#[0xb1]⟩ 1 none ∈ lw_all) (hF : 1 ≤ F) (hN : ((S.map toV).map fun v => v.category).sum + 12 ≤ N) (d : decode cc pc = .ok (.invokespecial idx, 3)) (K : hG Z nL (cI Z X μ0 μ) kk nn (pc + 3) L S) : hG Z nL (cI Z X μ0 μ) kk nn pc L (aR (some a) :: S) := fun H locs hI ls hl =>
  W.objInit C.x C.b C.o (C.w _ hq) (C.w _ h1) (C.w _ h2) rfl (by rw [C.ml]; exact hl.1) rfl d (Nat.le_trans hF C.f) (Nat.le_trans (by simpa [JFrame.monitorRoom] using hN) C.nn) (W.eq (g2 := F0 (zz_m Z) (pc + 3) ls (S.map toV)) rfl (K H locs hI ls hl))
theorem cx_ldcS (C : gC Z cc nL own ret F N) (hK : cCt Z X μ0) {index num : Nat} {tx : String} (hq : (own, index, tx, num) ∈ cSt) (d : decode cc pc = .ok (.ldc index, 2)) (K : hG Z nL (cI Z X μ0 μ) kk nn (pc + 2) L (aR (some (cX_s X num)) :: S)) : hG Z nL (cI Z X μ0 μ) kk nn pc L S := fun H locs hI ls hl =>
  va_ldcS C.x C.b C.o (hK.1.2.2.2.1 _ hq) d (K H locs hI ls hl)
/-- instanceof, the receiver's class being the asked one, or another one of the terms' -/
theorem cx_instY (C : gC Z cc nL own ret F N) (hK : cCt Z X μ0) {index ci : Nat} {q : vw_C} (hc : cCl[ci]? = some q) {fs : List Value} (he : cEn X μ a (.inr (ci, fs))) (hq : Cond.classLink own index q.1 ∈ lw_all) (d : decode cc pc = .ok (.instanceof index, 3)) (K : hG Z nL (cI Z X μ0 μ) kk nn (pc + 3) L (aI 1 :: S)) : hG Z nL (cI Z X μ0 μ) kk nn pc L (aR (some a) :: S) := fun H locs hI ls hl =>
  va_instS C.x C.b C.o (C.w _ hq) (hK.1.1.1 ci q hc).2 (cv_dyn hK hI hc he) d (K H locs hI ls hl)
theorem cx_instN (C : gC Z cc nL own ret F N) (hK : cCt Z X μ0) {index ci : Nat} {nm : String} {q : vw_C} (hc : cCl[ci]? = some q) {fs : List Value} (he : cEn X μ a (.inr (ci, fs))) (hq : Cond.classLink own index nm ∈ lw_all) (hno : (q.1, nm) ∈ cNc) (d : decode cc pc = .ok (.instanceof index, 3)) (K : hG Z nL (cI Z X μ0 μ) kk nn (pc + 3) L (aI 0 :: S)) : hG Z nL (cI Z X μ0 μ) kk nn pc L (aR (some a) :: S) := fun H locs hI ls hl =>
  va_instNo C.x C.b C.o (C.w _ hq) (hK.1.2.2.2.2.1 _ hno) (cv_dyn hK hI hc he) d (K H locs hI ls hl)
theorem cx_cast (C : gC Z cc nL own ret F N) (hK : cCt Z X μ0) {index ci : Nat} {q : vw_C} (hc : cCl[ci]? = some q) {fs : List Value} (he : cEn X μ a (.inr (ci, fs))) (hq : Cond.classLink own index q.1 ∈ lw_all) (d : decode cc pc = .ok (.checkcast index, 3)) (K : hG Z nL (cI Z X μ0 μ) kk nn (pc + 3) L (aR (some a) :: S)) : hG Z nL (cI Z X μ0 μ) kk nn pc L (aR (some a) :: S) := fun H locs hI ls hl =>
  va_castS C.x C.b C.o (C.w _ hq) (hK.1.1.1 ci q hc).2 (cv_dyn hK hI hc he) d (K H locs hI ls hl)
end CX4
theorem cany_T {X : cX} {μ : CM} {r : Option Nat} (h : ∀ v, r = some v → 5 ≤ tg μ v ∧ tg μ v ≤ 8) : cany X "BinderPress$Term" μ r := by
  intro v hv
  obtain ⟨h1, h2⟩ := h v hv
  rcases (show tg μ v = 5 ∨ tg μ v = 6 ∨ tg μ v = 7 ∨ tg μ v = 8 by omega) with e | e | e | e
  · exact ⟨4, _, _, _, _, cdE_4 e, rfl, Or.inl (by decide +kernel)⟩
  · exact ⟨5, _, _, _, _, cdE_5 e, rfl, Or.inl (by decide +kernel)⟩
  · exact ⟨6, _, _, _, _, cdE_6 e, rfl, Or.inl (by decide +kernel)⟩
  · exact ⟨7, _, _, _, _, cdE_7 e, rfl, Or.inl (by decide +kernel)⟩
theorem cany_K {X : cX} {μ : CM} {r : Option Nat} (h : ∀ v, r = some v → tg μ v = 10) : cany X "BinderPress$Kind" μ r := by
  intro v hv
  exact ⟨9, _, _, _, _, cdE_9 (h v hv), rfl, Or.inr rfl⟩
