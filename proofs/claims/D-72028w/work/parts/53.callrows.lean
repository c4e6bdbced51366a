/-! private methods of a superclass, super calls, interface calls, new arrays of references, stores of Strings and arrays -/
theorem sel_priv {s : State} {args : Array Value} {Cn : String} {y : MethodName} {c : ClassId} (hy : y.cls ≠ "java/lang/invoke/MethodHandle" ∧ y.cls ≠ "java/lang/invoke/VarHandle") (hc : s.vm.findClass Cn = some c) (hsm : (Cond.sameMethod y.cls y.cls y.name y.desc).before args s = true) (hpriv : va_Nw (.privateMethod y) s) (hinst : (Cond.instanceMethod y).before args s = true) : (Cond.selects Cn y y).before args s = true := by
  obtain ⟨c1, ck, r, h1, h2, h3, -, h5⟩ := Cond.sameMethod_found hsm
  obtain ⟨mk, methM, hnamed, hmethM, -, -⟩ := Cond.instanceMethod_spec hinst
  have hfound : s.methodFound? y.cls y.name y.desc = some mk := State.methodFound?_of_named hnamed hy
  have hcls : mk.cls = c1 := Option.some.inj ((findClass_of_methodNamed hnamed).symm.trans h1)
  have hsel : selectMethod {} s.vm c mk = .method mk := selectMethod_private hmethM (Cond.privateMethod_at hpriv mk methM hnamed hmethM)
  simp only [Cond.before, Cond.holds, Cond.value, hc, hfound, hnamed, hsel, hcls, h2]
  simp [h3]
section CX7
variable {Z : zz} {X : cX} {μ0 μ μ' : CM} {cc : ByteArray} {nL : Nat} {own : String} {ret : Option FieldType} {F N kk nn pc : Nat} {L : List (Nat × AV)} {S : List AV} {a len : Nat}
variable {H : Heap} {locs : List Loc} {ls : Array Slot} {lv : List (Nat × Value)} {stk : List Value} {y : MethodName} {b : ByteArray} {ml index n mc ms : Nat} {rt : Option FieldType} {rm : Room} {Cn : String} {As rest : List Value} {Qc : Array Value → State → Outcome → State → Prop} {free : Addr → Prop}
theorem cr_P (C : gC Z cc nL own ret F N) (hK : cCt Z X μ0) (hI : cI Z X μ0 μ H locs) (hl : lv_has ls nL lv) (n : Nat) {ci : Nat} {q : vw_C} (hc : cCl[ci]? = some q) {fs : List Value} (he : cEn X μ a (.inr (ci, fs))) (hM : Met (zz_l Z) y (ws_ y b ml rt) rm (cPc X (.ref a :: As) μ H.size) Qc mc ms free) (hlk : Cond.methodLink own index y ∈ lw_all) (hsm : Cond.sameMethod y.cls y.cls y.name y.desc ∈ lw_all) (hpr : Cond.privateMethod y ∈ cNw) (hst : Cond.instanceMethod y ∈ lw_all) (hin : Cond.initialized y.cls ∈ lw_all) (hq : Cond.code y b ml rt ∈ lw_all) (hd : y.cls ≠ "java/lang/invoke/MethodHandle" ∧ y.cls ≠ "java/lang/invoke/VarHandle" ∧ (parseMethodDescriptor y.desc).map (fun d => d.parameters.length) = some n) (hrm : crm rm mc ms F N ml) (hW : (rest.map fun v => v.category).sum ≤ 8) (d : decode cc pc = .ok (.invokevirtual index, 3)) (hn : As.length = n) (hs : stk = As.reverse ++ .ref a :: rest) (hf : kk + mc ≤ (zz_R Z).cells ∧ nn + ms ≤ (zz_R Z).slots) : cRun Z H locs kk nn mc ms pc ls stk rest (Qc (Value.ref a :: As).toArray) free :=
  cr_U (x := y) (owner := y.cls) (Cn := q.1) C hK hI hl n (cv_dyn hK hI hc he) hM (C.w _ hlk) (C.w _ hsm) (va_Decl.of (C.w _ hst) (C.w _ hq)) (sel_priv ⟨hd.1, hd.2.1⟩ (hK.1.1.1 ci q hc).2.1 (C.w _ hsm) (hK.1.2.2.1 _ hpr) (C.w _ hst)) hst hin hq hd hrm hW d hn hs hf
theorem cr_SU (C : gC Z cc nL own ret F N) (hK : cCt Z X μ0) (hI : cI Z X μ0 μ H locs) (hl : lv_has ls nL lv) (n : Nat) {ci : Nat} {q : vw_C} (hc : cCl[ci]? = some q) {fs : List Value} (he : cEn X μ a (.inr (ci, fs))) (hM : Met (zz_l Z) y (ws_ y b ml rt) rm (cPc X (.ref a :: As) μ H.size) Qc mc ms free) (hlk : Cond.methodLink own index y ∈ lw_all) (hsm : Cond.sameMethod y.cls y.cls y.name y.desc ∈ lw_all) (hsp : Cond.superclass own y.cls ∈ lw_all) (hst : Cond.instanceMethod y ∈ lw_all) (hin : Cond.initialized y.cls ∈ lw_all) (hq : Cond.code y b ml rt ∈ lw_all) (hd : y.name ≠ "<init>" ∧ (parseMethodDescriptor y.desc).map (fun d => d.parameters.length) = some n) (hrm : crm rm mc ms F N ml) (hW : (rest.map fun v => v.category).sum ≤ 8) (d : decode cc pc = .ok (.invokespecial index, 3)) (hn : As.length = n) (hs : stk = As.reverse ++ .ref a :: rest) (hf : kk + mc ≤ (zz_R Z).cells ∧ nn + ms ≤ (zz_R Z).slots) : cRun Z H locs kk nn mc ms pc ls stk rest (Qc (Value.ref a :: As).toArray) free :=
  va_runSU (As := As) (rest := rest) (hK.1.1.1 ci q hc).2 ⟨C.x, C.b, C.ml, C.o, C.w⟩ hM ⟨⟨hrm.1, hrm.2.1, Nat.le_trans hrm.2.2.1 C.f, Nat.le_trans hrm.2.2.2 C.nn, pay_in C.w (lw_meth hq), List.mem_cons_self⟩, C.w _ hlk, C.w _ hsm, C.w _ hsp, C.w _ hst, C.w _ hin, C.w _ hq, hd.1, fun sig h => by
    have h2 := hd.2
    rw [h] at h2
    exact (Option.some.inj h2).symm⟩ ⟨cPc_blind, cv_dyn hK hI hc he, fun U hU hW => cPc_to hK hI hU hW⟩ rfl hn hl.1 hs (lv_room hW) d hf
/-- a call through an interface: 5 bytes -/
theorem cx_fi {x : MethodName} {count : Nat} {Q : Int → CM → Prop} (C : gC Z cc nL own ret F N) (hK : cCt Z X μ0) (hI : cI Z X μ0 μ H locs) (hl : lv_has ls nL (toL L)) (n : Nat) {cC : ClassId} (hat : ClassAt (zz_s Z) Cn cC) (hrecv : ∃ cell : Cell, H[a]? = some cell ∧ cell.vm.isStatics = false ∧ (zz_s Z).vm.findClass Cn = some cell.cls) (hM : Met (zz_l Z) y (ws_ y b ml rt) rm (cPc X (.ref a :: As) μ H.size) (cQi X μ H.size Q) mc ms (cA X μ H.size)) (hlk : Cond.methodLink own index x ∈ lw_all) (hsel : Cond.selects Cn x y ∈ lw_all) (hF : (Cn, x, y) ∈ cFw) (hst : Cond.instanceMethod y ∈ lw_all) (hin : Cond.initialized y.cls ∈ lw_all) (hq : Cond.code y b ml rt ∈ lw_all) (hd : x.cls ≠ "java/lang/invoke/MethodHandle" ∧ x.cls ≠ "java/lang/invoke/VarHandle" ∧ (parseMethodDescriptor x.desc).map (fun d => d.parameters.length) = some n) (hrm : crm rm mc ms F N ml) (hW : ((S.map toV).map fun v => v.category).sum ≤ 8) (d : decode cc pc = .ok (.invokeinterface index count, 5)) (hn : As.length = n) (hs : stk = As.reverse ++ .ref a :: S.map toV) (hf : kk + mc ≤ (zz_R Z).cells ∧ nn + ms ≤ (zz_R Z).slots) (K : ∀ r μ', Q r μ' → hG Z nL (cI Z X μ0 μ') (kk + mc) (nn + ms) (pc + 5) L (aI r :: S)) : W (zz_p Z) (zz_l Z) (zz_e Z) (zz_R Z) (zz_s Z) (zz_m Z) (zz_a Z) (zz_b Z) (zz_t Z) (zz_c Z) H locs kk nn (zz_q Z) (F0 (zz_m Z) pc ls stk) := by
  have hG0 : GoodIn lw_all (va_wsF own index Cn x y (ws_ y b ml rt)) := lw_app (by
    intro w hw
    simp only [List.mem_cons, List.not_mem_nil, or_false] at hw
    rcases hw with e | e | e | e
    · rw [e]; exact hlk
    · rw [e]; exact hsel
    · rw [e]; exact hst
    · rw [e]; exact hin) (lw_meth hq)
  refine va_callFi (va_runF (As := As) (rest := S.map toV) hat ⟨C.x, C.b, C.ml, C.o, C.w⟩ hM (va_cwF n C.w hG0 rfl hrm.1 hrm.2.1 (hK.1.2.2.2.2.2.1 _ hF) hd ⟨Nat.le_trans hrm.2.2.1 C.f, Nat.le_trans hrm.2.2.2 C.nn⟩) ⟨cPc_blind, hrecv, fun U hU hW => cPc_to hK hI hU hW⟩ rfl hn hl.1 hs (lv_room hW) d hf) hI.2.1 (fun q _ h => cA_sub hI q h) (fun q h => cA_sub hI q h) (fun r u t H1 locs1 ht hvm hp hB _ _ hS => ?_)
  obtain ⟨e, hq1⟩ := hp
  rw [e]
  exact K u.1 u.2 hq1 H1 locs1 (cI_back hI ht hB hS) ls hl
theorem cx_newQ (C : gC Z cc nL own ret F N) (hK : cCt Z X μ0) (c : Nat) {E : String} (hc : (cTy X)[c]? = some (cX_c X c, .object E)) (hE : E ∈ cAo) {index : Nat} (hq : Cond.classLink own index E ∈ lw_all) (ht : 20 ≤ 20 + c ∧ 20 + c ≤ 25) (he : ∀ (ν : CM) (a : Nat), tg ν a = 20 + c → cdE X ν a = some (.inl (cX_c X c, ln ν a, .inr (.inr (.inr (.inr (fun j => oR ν a j))))))) {m : Int} (h0 : 0 ≤ m) (hm : m ≤ 100000) (h1 : kk + 1 ≤ (zz_R Z).cells) (h2 : nn + m.toNat ≤ (zz_R Z).slots) (d : decode cc pc = .ok (.anewarray index, 3)) (K : ∀ a, tg μ a = 0 → hG Z nL (cI Z X μ0 (alc μ a (20 + c) m.toNat)) (kk + 1) (nn + m.toNat) (pc + 3) L (aR (some a) :: S)) : hG Z nL (cI Z X μ0 μ) kk nn pc L (aI m :: S) := fun H locs hI ls hl => by
  have hcl := i32_cl h0 (by omega)
  refine W.anew C.x C.b C.o (C.w _ hq) (va_AO.use (hK.1.2.2.2.2.2.2.1 _ hE)) rfl d rfl (i32_nn h0 (by omega)) (by rw [hcl]; omega) h1 (by rw [hcl]; exact h2) fun cA kA comp f1 f2 f3 f4 => ?_
  rw [hcl]
  generalize hH1 : H.push ({ cls := cA, slots := Array.replicate m.toNat .null, vm := .none } : Cell) = H1
  have z1 : H1.size = H.size + 1 := by rw [← hH1, Array.size_push]
  have e1 : H1[H.size]? = some (arrV cA m.toNat (fun _ => .null)) := by rw [← hH1, Array.getElem?_push_size, ← arrV_new]
  have o1 : ∀ q : Nat, q < H.size → H1[q]? = H[q]? := fun q hq => by rw [← hH1, Array.getElem?_push, if_neg (Nat.ne_of_lt hq)]
  obtain ⟨kA2, comp2, g1, g2, g3, g4⟩ := (hK.1.1.2 c _ hc).2
  have hcA : cA = cX_c X c := Option.some.inj (f1.symm.trans g4)
  subst hcA
  exact K H.size (cw_fresh hK hI) H1 locs (cI_new hK hI z1 o1 (Or.inr ht) (he _ _ alc_t) (by
    show H1[H.size]? = some (vp_cell _ _)
    rw [e1, alc_n, alc_R]
    rfl)) ls hl
theorem cx_aastS (C : gC Z cc nL own ret F N) (hK : cCt Z X μ0) {f : Nat → Option Nat} {i : Int} {r : Option Nat} (hu : cUp X μ a (.inl (cX_c X 3, len, .inr (.inr (.inr (.inr f))))) (.inl (cX_c X 3, len, .inr (.inr (.inr (.inr (va_up f i.toNat r)))))) μ') (hr : ∀ v, r = some v → tg μ v = 13 ∨ tg μ v = 14) (h0 : 0 ≤ i) (h1 : i < (len : Int)) (hlen : len < 2147483648) (d : decode cc pc = .ok (.aastore, 1)) (K : hG Z nL (cI Z X μ0 μ') kk nn (pc + 1) L S) : hG Z nL (cI Z X μ0 μ) kk nn pc L (aR r :: aI i :: aR (some a) :: S) := fun H locs hI ls hl => by
  obtain ⟨q, hq, up⟩ := hu.up hI
  cases r with
  | none => exact va_astqN C.x C.b hK.1.1 (hI.1.P H.size) (cI_D hK hI) hI.2.1 q 3 hq rfl (i32_in h0 h1 hlen) d (fun H1 locs1 hP _ hS => K H1 locs1 (up H1 locs1 (by rw [i32_ix h0 h1 hlen] at hP; exact hP) hS) ls hl)
  | some v =>
    have hany : va_Any "java/lang/String" (zz_s Z) H v := by
      obtain ⟨cell, g1, g2, g3⟩ := cv_str hK hI (hr v rfl)
      have hat := (hK.1.1.1 12 _ rfl).2
      obtain ⟨kC, hkC, -⟩ := Vm.findClass_spec g3
      refine ⟨cell, g1, g2, ⟨kC, hkC⟩, fun comp h => ?_⟩
      have e1 : comp = cell.cls := Option.some.inj (h.symm.trans g3)
      have e2 : (cX_D X).1 12 = cell.cls := Option.some.inj (hat.1.symm.trans g3)
      rw [e1, ← e2]
      exact va_assign hat
    exact va_astqM C.x C.b hK.1.1 (hI.1.P H.size) (cI_D hK hI) hI.2.1 q 3 hq rfl hany (i32_in h0 h1 hlen) d (fun H1 locs1 hP _ hS => K H1 locs1 (up H1 locs1 (by rw [i32_ix h0 h1 hlen] at hP; exact hP) hS) ls hl)
end CX7
theorem alc_kp2 {μ : CM} {a b c c' t m : Nat} (hb : tg μ b = 0) (ha : tg μ a = c ∨ tg μ a = c') (hc : c ≠ 0) (hc' : c' ≠ 0) : tg (alc μ b t m) a = c ∨ tg (alc μ b t m) a = c' := by
  rcases ha with ha | ha
  · exact Or.inl (alc_kp hb ha hc)
  · exact Or.inr (alc_kp hb ha hc')
