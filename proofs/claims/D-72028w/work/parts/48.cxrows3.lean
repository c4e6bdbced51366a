/-! calls, new cells, casts, constants -/
section CX3
variable {Z : zz} {X : cX} {μ0 μ μ' : CM} {cc : ByteArray} {nL : Nat} {own : String} {ret : Option FieldType} {F N kk nn pc : Nat} {L : List (Nat × AV)} {S : List AV} {a len : Nat}
variable {H : Heap} {locs : List Loc} {ls : Array Slot} {lv : List (Nat × Value)} {stk : List Value} {y : MethodName} {b : ByteArray} {ml index n mc ms : Nat} {rt : Option FieldType} {rm : Room} {Cn : String} {As rest : List Value} {Qc : Array Value → State → Outcome → State → Prop} {free : Addr → Prop}
abbrev cRun (Z : zz) (H : Heap) (locs : List Loc) (kk nn mc ms pc : Nat) (ls : Array Slot) (stk rest : List Value) (Qa : State → Outcome → State → Prop) (free : Addr → Prop) : Prop := va_Run (zz_p Z) (zz_l Z) (zz_e Z) (zz_R Z) (zz_s Z) (zz_m Z) (zz_a Z) (zz_b Z) (zz_t Z) (zz_c Z) H locs kk nn mc ms (F0 (zz_m Z) pc ls stk) rest Qa free
abbrev crm (rm : Room) (mc ms F N ml : Nat) : Prop := rm.cells = mc ∧ rm.slots = ms ∧ rm.frames + 1 ≤ F ∧ 8 + (ml + 11) + rm.locals ≤ N
theorem cr_V (C : gC Z cc nL own ret F N) (hK : cCt Z X μ0) (hI : cI Z X μ0 μ H locs) (hl : lv_has ls nL lv) (n : Nat) (hrecv : ∃ cell : Cell, H[a]? = some cell ∧ cell.vm.isStatics = false ∧ (zz_s Z).vm.findClass Cn = some cell.cls) (hM : Met (zz_l Z) y (ws_ y b ml rt) rm (cPc X (.ref a :: As) μ H.size) Qc mc ms free) (hq : GoodIn lw_all (wsV own index Cn y (ws_ y b ml rt))) (hd : y.cls = Cn ∧ y.cls ≠ "java/lang/invoke/MethodHandle" ∧ y.cls ≠ "java/lang/invoke/VarHandle" ∧ (parseMethodDescriptor y.desc).map (fun d => d.parameters.length) = some n) (hrm : crm rm mc ms F N ml) (hW : (rest.map fun v => v.category).sum ≤ 8) (d : decode cc pc = .ok (.invokevirtual index, 3)) (hn : As.length = n) (hs : stk = As.reverse ++ .ref a :: rest) (hf : kk + mc ≤ (zz_R Z).cells ∧ nn + ms ≤ (zz_R Z).slots) : cRun Z H locs kk nn mc ms pc ls stk rest (Qc (Value.ref a :: As).toArray) free :=
  va_runV (As := As) (rest := rest) ⟨C.x, C.b, C.ml, C.o, C.w⟩ hM (cwV n C.w hq rfl hrm.1 hrm.2.1 hd ⟨Nat.le_trans hrm.2.2.1 C.f, Nat.le_trans hrm.2.2.2 C.nn⟩) ⟨cPc_blind, hrecv, fun U hU hW => cPc_to hK hI hU hW⟩ rfl hn hl.1 hs (lv_room hW) d hf
theorem cr_S (C : gC Z cc nL own ret F N) (hK : cCt Z X μ0) (hI : cI Z X μ0 μ H locs) (hl : lv_has ls nL lv) (n : Nat) (hM : Met (zz_l Z) y (ws_ y b ml rt) rm (cPc X As μ H.size) Qc mc ms free) (hq : GoodIn lw_all (va_wsS own index y (ws_ y b ml rt))) (hd : y.cls ≠ "java/lang/invoke/MethodHandle" ∧ y.cls ≠ "java/lang/invoke/VarHandle" ∧ (parseMethodDescriptor y.desc).map (fun d => d.parameters.length) = some n) (hrm : crm rm mc ms F N ml) (hW : (rest.map fun v => v.category).sum ≤ 8) (d : decode cc pc = .ok (.invokestatic index, 3)) (hn : As.length = n) (hs : stk = As.reverse ++ rest) (hf : kk + mc ≤ (zz_R Z).cells ∧ nn + ms ≤ (zz_R Z).slots) : cRun Z H locs kk nn mc ms pc ls stk rest (Qc As.toArray) free :=
  va_runS (As := As) (rest := rest) ⟨C.x, C.b, C.ml, C.o, C.w⟩ hM (va_cwS n C.w hq rfl hrm.1 hrm.2.1 hd ⟨Nat.le_trans hrm.2.2.1 C.f, Nat.le_trans hrm.2.2.2 C.nn⟩) ⟨cPc_blind, fun U hU hW => cPc_to hK hI hU hW⟩ rfl hn hl.1 hs (lv_room hW) d hf
theorem cr_SN {host : String} (C : gC Z cc nL own ret F N) (hK : cCt Z X μ0) (hI : cI Z X μ0 μ H locs) (hl : lv_has ls nL lv) (n : Nat) (hM : Met (zz_l Z) y (ws_ y b ml rt) rm (cPc X As μ H.size) Qc mc ms free) (hlk : Cond.methodLinkNest own index y host ∈ cNw) (hst : Cond.static y ∈ lw_all) (hin : Cond.initialized y.cls ∈ lw_all) (hq : Cond.code y b ml rt ∈ lw_all) (hd : y.cls ≠ "java/lang/invoke/MethodHandle" ∧ y.cls ≠ "java/lang/invoke/VarHandle" ∧ (parseMethodDescriptor y.desc).map (fun d => d.parameters.length) = some n) (hrm : crm rm mc ms F N ml) (hW : (rest.map fun v => v.category).sum ≤ 8) (d : decode cc pc = .ok (.invokestatic index, 3)) (hn : As.length = n) (hs : stk = As.reverse ++ rest) (hf : kk + mc ≤ (zz_R Z).cells ∧ nn + ms ≤ (zz_R Z).slots) : cRun Z H locs kk nn mc ms pc ls stk rest (Qc As.toArray) free :=
  va_runSN (As := As) (rest := rest) ⟨C.x, C.b, C.ml, C.o, C.w⟩ hM ⟨va_cnB n C.w (lw_meth hq) rfl hrm.1 hrm.2.1 (hK.1.2.2.1 _ hlk) (C.w _ hin) hd ⟨Nat.le_trans hrm.2.2.1 C.f, Nat.le_trans hrm.2.2.2 C.nn⟩, C.w _ hst, trivial⟩ ⟨cPc_blind, fun U hU hW => cPc_to hK hI hU hW⟩ rfl hn hl.1 hs (lv_room hW) d hf
theorem cr_I (C : gC Z cc nL own ret F N) (hK : cCt Z X μ0) (hI : cI Z X μ0 μ H locs) (hl : lv_has ls nL lv) (n : Nat) (hM : Met (zz_l Z) y (ws_ y b ml none) rm (cPc X (.ref a :: As) μ H.size) Qc mc ms free) (hlk : Cond.methodLink own index y ∈ lw_all) (hst : Cond.instanceMethod y ∈ lw_all) (hin : Cond.initialized y.cls ∈ lw_all) (hq : Cond.code y b ml none ∈ lw_all) (hy : y.name = "<init>") (hd : y.cls ≠ "java/lang/invoke/MethodHandle" ∧ y.cls ≠ "java/lang/invoke/VarHandle" ∧ (parseMethodDescriptor y.desc).map (fun d => d.parameters.length) = some n) (hrm : crm rm mc ms F N ml) (hW : (rest.map fun v => v.category).sum ≤ 8) (d : decode cc pc = .ok (.invokespecial index, 3)) (hn : As.length = n) (hs : stk = As.reverse ++ .ref a :: rest) (hf : kk + mc ≤ (zz_R Z).cells ∧ nn + ms ≤ (zz_R Z).slots) : cRun Z H locs kk nn mc ms pc ls stk rest (Qc (Value.ref a :: As).toArray) free :=
  va_runI (As := As) (rest := rest) ⟨C.x, C.b, C.ml, C.o, C.w⟩ hM (cwI n C.w (lw_meth hq) rfl hrm.1 hrm.2.1 (C.w _ hin) (C.w _ hlk) (C.w _ hst) hy hd ⟨Nat.le_trans hrm.2.2.1 C.f, Nat.le_trans hrm.2.2.2 C.nn⟩) ⟨cPc_blind, fun U hU hW => cPc_to hK hI hU hW⟩ rfl hn hl.1 hs (lv_room hW) d hf
theorem cr_IN {host : String} (C : gC Z cc nL own ret F N) (hK : cCt Z X μ0) (hI : cI Z X μ0 μ H locs) (hl : lv_has ls nL lv) (n : Nat) (hM : Met (zz_l Z) y (ws_ y b ml none) rm (cPc X (.ref a :: As) μ H.size) Qc mc ms free) (hlk : Cond.methodLinkNest own index y host ∈ cNw) (hst : Cond.instanceMethod y ∈ lw_all) (hin : Cond.initialized y.cls ∈ lw_all) (hq : Cond.code y b ml none ∈ lw_all) (hy : y.name = "<init>") (hd : y.cls ≠ "java/lang/invoke/MethodHandle" ∧ y.cls ≠ "java/lang/invoke/VarHandle" ∧ (parseMethodDescriptor y.desc).map (fun d => d.parameters.length) = some n) (hrm : crm rm mc ms F N ml) (hW : (rest.map fun v => v.category).sum ≤ 8) (d : decode cc pc = .ok (.invokespecial index, 3)) (hn : As.length = n) (hs : stk = As.reverse ++ .ref a :: rest) (hf : kk + mc ≤ (zz_R Z).cells ∧ nn + ms ≤ (zz_R Z).slots) : cRun Z H locs kk nn mc ms pc ls stk rest (Qc (Value.ref a :: As).toArray) free :=
  va_runIN (As := As) (rest := rest) ⟨C.x, C.b, C.ml, C.o, C.w⟩ hM ⟨va_cnB n C.w (lw_meth hq) rfl hrm.1 hrm.2.1 (hK.1.2.2.1 _ hlk) (C.w _ hin) hd ⟨Nat.le_trans hrm.2.2.1 C.f, Nat.le_trans hrm.2.2.2 C.nn⟩, hy, C.w _ hst⟩ ⟨cPc_blind, fun U hU hW => cPc_to hK hI hU hW⟩ rfl hn hl.1 hs (lv_room hW) d hf
/-- a method that the reference names through another class: x as named, declared (perhaps abstract) by owner, y what runs -/
theorem cr_U {x : MethodName} {owner : String} (C : gC Z cc nL own ret F N) (hK : cCt Z X μ0) (hI : cI Z X μ0 μ H locs) (hl : lv_has ls nL lv) (n : Nat) (hrecv : ∃ cell : Cell, H[a]? = some cell ∧ cell.vm.isStatics = false ∧ (zz_s Z).vm.findClass Cn = some cell.cls) (hM : Met (zz_l Z) y (ws_ y b ml rt) rm (cPc X (.ref a :: As) μ H.size) Qc mc ms free) (hlk : (Cond.methodLink own index x).before (zz_a Z) (zz_s Z) = true) (hsm : (Cond.sameMethod x.cls owner x.name x.desc).before (zz_a Z) (zz_s Z) = true) (hdc : va_Decl (zz_s Z) ⟨owner, x.name, x.desc⟩) (hsel : (Cond.selects Cn x y).before (zz_a Z) (zz_s Z) = true) (hst : Cond.instanceMethod y ∈ lw_all) (hin : Cond.initialized y.cls ∈ lw_all) (hq : Cond.code y b ml rt ∈ lw_all) (hd : owner ≠ "java/lang/invoke/MethodHandle" ∧ owner ≠ "java/lang/invoke/VarHandle" ∧ (parseMethodDescriptor x.desc).map (fun d => d.parameters.length) = some n) (hrm : crm rm mc ms F N ml) (hW : (rest.map fun v => v.category).sum ≤ 8) (d : decode cc pc = .ok (.invokevirtual index, 3)) (hn : As.length = n) (hs : stk = As.reverse ++ .ref a :: rest) (hf : kk + mc ≤ (zz_R Z).cells ∧ nn + ms ≤ (zz_R Z).slots) : cRun Z H locs kk nn mc ms pc ls stk rest (Qc (Value.ref a :: As).toArray) free :=
  va_runU (As := As) (rest := rest) (owner := owner) (x := x) ⟨C.x, C.b, C.ml, C.o, C.w⟩ hM ⟨⟨hrm.1, hrm.2.1, Nat.le_trans hrm.2.2.1 C.f, Nat.le_trans hrm.2.2.2 C.nn, pay_in C.w (lw_meth hq), List.mem_cons_self⟩, C.w _ hq, C.w _ hin, ⟨hd.1, hd.2.1⟩, fun sig h => by
    have h2 := hd.2.2
    rw [h] at h2
    exact (Option.some.inj h2).symm, hlk, hsm, hdc, hsel, C.w _ hst⟩ ⟨cPc_blind, hrecv, fun U hU hW => cPc_to hK hI hU hW⟩ rfl hn hl.1 hs (lv_room hW) d hf
/-- new -/
theorem cw_fresh (hK : cCt Z X μ0) (hI : cI Z X μ0 μ H locs) : tg μ H.size = 0 := by
  refine Classical.byContradiction fun h => ?_
  rcases hI.2.2.2.2 _ h with h1 | h1 | h1
  · obtain ⟨e, he⟩ := cdE_ex (X := X) h1
    have := (hI.1.2.1 _ e he).lt
    exact absurd this (Nat.lt_irrefl _)
  · obtain ⟨cell, h2, -⟩ := ((((hK.2.1.kept hI.2.1.2.1).to hI.2.2.2.1).1 _ h1).1)
    exact absurd (Array.getElem?_eq_some_iff.mp h2).1 (Nat.lt_irrefl _)
  · obtain ⟨cell, h2, -⟩ := (((hK.2.1.kept hI.2.1.2.1).to hI.2.2.2.1).2 _ h1)
    exact absurd (Array.getElem?_eq_some_iff.mp h2).1 (Nat.lt_irrefl _)
theorem alc_t {t m : Nat} : tg (alc μ a t m) a = t := by simp [alc, tg, up1]
theorem alc_o {t m q : Nat} (h : q ≠ a) : tg (alc μ a t m) q = tg μ q ∧ ln (alc μ a t m) q = ln μ q ∧ oI (alc μ a t m) q = oI μ q ∧ oR (alc μ a t m) q = oR μ q := by
  refine ⟨by simp [alc, tg, up1, h], by simp [alc, ln, up1, h], ?_, ?_⟩
  · funext j
    simp [alc, oI, h]
  · funext j
    simp [alc, oR, h]
theorem alc_n {t m : Nat} : ln (alc μ a t m) a = m := by simp [alc, ln, up1]
theorem alc_I {t m : Nat} : oI (alc μ a t m) a = fun _ => 0 := by funext j; simp [alc, oI]
theorem alc_R {t m : Nat} : oR (alc μ a t m) a = fun _ => none := by funext j; simp [alc, oR]
theorem cI_new {H1 : Heap} {t m : Nat} {e : va_E} (hK : cCt Z X μ0) (hI : cI Z X μ0 μ H locs) (hz : H1.size = H.size + 1) (ho : ∀ q, q < H.size → H1[q]? = H[q]?) (ht : (3 ≤ t ∧ t ≤ 13) ∨ (20 ≤ t ∧ t ≤ 25)) (he : cdE X (alc μ H.size t m) H.size = some e) (hat : va_at (cX_D X) cCl (H.size, e) H1) : cI Z X μ0 (alc μ H.size t m) H1 locs := by
  have hP := hI.1.P H.size
  refine ⟨⟨fun k q hk => (hI.1.1 k q hk).kept (ho _ (hI.1.1 k q hk).lt), fun q f hf => ?_, fun q hq hw => ?_⟩, ⟨Nat.le_trans hI.2.1.1 (by omega), fun q h1 h2 => (ho q (Nat.lt_of_lt_of_le h1 hI.2.1.1)).trans (hI.2.1.2.1 q h1 h2), hI.2.1.2.2⟩, fun q hq => ?_, fun q hq => ?_, fun q hq => ?_⟩
  · by_cases hqa : q = H.size
    · subst hqa
      rw [he] at hf
      cases hf
      exact hat
    · obtain ⟨e1, e2, e3, e4⟩ := alc_o (μ := μ) (t := t) (m := m) hqa
      rw [cdE_congr e1 e2 e3 e4] at hf
      have := hI.1.2.1 q f hf
      exact this.kept (ho q this.lt)
  · by_cases hqa : q = H.size
    · have h1 : q ∈ csL X := hq
      obtain ⟨k, hk⟩ := List.mem_iff_getElem?.mp h1
      rw [← csW_L X μ, List.getElem?_map] at hk
      cases hc : (csW X μ)[k]? with
      | none => rw [hc] at hk; cases hk
      | some x =>
        rw [hc] at hk
        have h2 := (hI.1.1 k x hc).lt
        have h3 : x.1 = q := Option.some.inj hk
        omega
    · have h1 := (alc_o (μ := μ) (t := t) (m := m) hqa).1
      exact hI.1.2.2 q hq (by unfold cwn at hw ⊢; rw [h1] at hw; exact hw)
  · by_cases hqa : q = H.size
    · exact Or.inr (by rw [hqa]; exact hI.2.1.1)
    · have h1 := (alc_o (μ := μ) (t := t) (m := m) hqa).1
      exact hI.2.2.1 q (by unfold cwn at hq ⊢; rw [h1] at hq; exact hq)
  · by_cases hqa : q = H.size
    · subst hqa
      rw [alc_t] at hq
      omega
    · obtain ⟨e1, e2, e3, e4⟩ := alc_o (μ := μ) (t := t) (m := m) hqa
      rw [e1] at hq
      obtain ⟨f1, f2, f3, f4⟩ := hI.2.2.2.1 q hq
      exact ⟨f1.trans e1.symm, f2.trans e2.symm, f3.trans e3.symm, f4.trans e4.symm⟩
  · by_cases hqa : q = H.size
    · subst hqa
      left
      unfold cwn
      rw [alc_t]
      exact ht
    · have e1 := (alc_o (μ := μ) (t := t) (m := m) hqa).1
      have h1 := hI.2.2.2.2 q (by rw [← e1]; exact hq)
      unfold cwn at h1 ⊢
      rw [e1]
      exact h1
theorem cx_new (C : gC Z cc nL own ret F N) (hK : cCt Z X μ0) (ci t : Nat) {T : u_T} {Nn : Nat} {ty0 : Nat → FieldType} (hc : cCl[ci]? = some (Cn, T, Nn)) (hin : ∀ w ∈ u_ws Cn T Nn, w ∈ lw_all) (hty : ∀ k, k < Nn → parseFieldDescriptor (T k).2.2.1 = some (ty0 k)) {index : Nat} (hq : Cond.classLink own index Cn ∈ lw_all) (hi : Cond.instantiable Cn Nn ∈ lw_all) (hini : Cond.initialized Cn ∈ lw_all) (ht : (3 ≤ t ∧ t ≤ 13) ∨ (20 ≤ t ∧ t ≤ 25)) {fs : Nat → List Value} (he : ∀ a, cdE X (alc μ a t 0) a = some (.inr (ci, fs a))) (hfs : ∀ a j, j < Nn → defaultValue (ty0 j) = vp_V (fs a) j) (h1 : kk + 1 ≤ (zz_R Z).cells) (h2 : nn + Nn ≤ (zz_R Z).slots) (d : decode cc pc = .ok (.new index, 3)) (K : ∀ a, tg μ a = 0 → hG Z nL (cI Z X μ0 (alc μ a t 0)) (kk + 1) (nn + Nn) (pc + 3) L (aR (some a) :: S)) : hG Z nL (cI Z X μ0 μ) kk nn pc L S := fun H locs hI ls hl => by
  have hKn := hK.1.1.1 ci _ hc
  refine W.newcK C.x C.b C.o (C.w _ hq) (C.w _ hi) (C.w _ hini) rfl d h1 h2 hKn.2.1 rfl fun H1 kC hkC e1 z1 o1 => ?_
  exact K H.size (cw_fresh hK hI) H1 locs (cI_new hK hI z1 o1 ht (he H.size) ⟨_, hc, (u_born ty0 C.w hin hKn hkC e1 hty).to (hfs H.size)⟩) ls hl
end CX3
