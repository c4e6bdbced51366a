/-! methods that throw: what is thrown is told with its address -/
def cXQ (X : cX) (μ : CM) (sz : Nat) (En : String) (XQ : Nat → CM → Prop) : String → Addr → State → State → Prop := fun E q st t => E = En ∧ ∃ μ' : CM, XQ q μ' ∧ cBk X μ sz μ' t ∧ va_F (cA X μ sz) st t
/-- the walk with q thrown at pc -/
def xG (Z : zz) (nL : Nat) (I : Heap → List Loc → Prop) (k n pc : Nat) (L : List (Nat × AV)) (S : List AV) (En : String) (q : Nat) : Prop :=
  ∀ (H : Heap) (locs : List Loc), I H locs → ∀ ls : Array Slot, lv_has ls nL (toL L) → ∀ ce : Cell, H[q]? = some ce → ce.vm = .none → (zz_s Z).vm.findClass En = some ce.cls → vy_W (zz_p Z) (zz_l Z) (zz_e Z) (zz_R Z) (zz_s Z) (zz_m Z) (zz_a Z) (zz_b Z) (zz_t Z) (zz_c Z) H locs k n (zz_q Z) (F0 (zz_m Z) pc ls (S.map toV)) q
section CY
variable {Z : zz} {X : cX} {μ0 μ μ' : CM} {cc : ByteArray} {nL : Nat} {own : String} {ret : Option FieldType} {F N kk nn pc : Nat} {L : List (Nat × AV)} {S : List AV} {a len : Nat}
variable {H : Heap} {locs : List Loc} {ls : Array Slot} {lv : List (Nat × Value)} {stk st0 : List Value} {y : MethodName} {b : ByteArray} {ml index n mc ms fr lo : Nat} {rt : Option FieldType} {rm : Room} {Cn En : String} {As rest : List Value} {Qc : Array Value → State → Outcome → State → Prop} {XC : String → Addr → State → State → Prop} {XQ : Nat → CM → Prop} {free : Addr → Prop}
abbrev yRun (Z : zz) (H : Heap) (locs : List Loc) (kk nn mc ms pc : Nat) (ls : Array Slot) (stk rest : List Value) (Qa : State → Outcome → State → Prop) (XC : String → Addr → State → State → Prop) (free : Addr → Prop) : Prop := vy_Run (zz_p Z) (zz_l Z) (zz_e Z) (zz_R Z) (zz_s Z) (zz_m Z) (zz_a Z) (zz_b Z) (zz_t Z) (zz_c Z) H locs kk nn mc ms (F0 (zz_m Z) pc ls stk) rest Qa XC free
theorem cy_V (C : gC Z cc nL own ret F N) (hK : cCt Z X μ0) (hI : cI Z X μ0 μ H locs) (hl : lv_has ls nL lv) (n : Nat) (hrecv : ∃ cell : Cell, H[a]? = some cell ∧ cell.vm.isStatics = false ∧ (zz_s Z).vm.findClass Cn = some cell.cls) (hM : vy_Met (zz_l Z) y (ws_ y b ml rt) rm (cPc X (.ref a :: As) μ H.size) Qc XC mc ms free) (hq : GoodIn lw_all (wsV own index Cn y (ws_ y b ml rt))) (hd : y.cls = Cn ∧ y.cls ≠ "java/lang/invoke/MethodHandle" ∧ y.cls ≠ "java/lang/invoke/VarHandle" ∧ (parseMethodDescriptor y.desc).map (fun d => d.parameters.length) = some n) (hrm : crm rm mc ms F N ml) (hW : (rest.map fun v => v.category).sum ≤ 8) (d : decode cc pc = .ok (.invokevirtual index, 3)) (hn : As.length = n) (hs : stk = As.reverse ++ .ref a :: rest) (hf : kk + mc ≤ (zz_R Z).cells ∧ nn + ms ≤ (zz_R Z).slots) : yRun Z H locs kk nn mc ms pc ls stk rest (Qc (Value.ref a :: As).toArray) XC free :=
  vy_runV (As := As) (rest := rest) ⟨C.x, C.b, C.ml, C.o, C.w⟩ hM (cwV n C.w hq rfl hrm.1 hrm.2.1 hd ⟨Nat.le_trans hrm.2.2.1 C.f, Nat.le_trans hrm.2.2.2 C.nn⟩) ⟨cPc_blind, hrecv, fun U hU hW => cPc_to hK hI hU hW⟩ rfl hn hl.1 hs (lv_room hW) d hf
theorem cy_S (C : gC Z cc nL own ret F N) (hK : cCt Z X μ0) (hI : cI Z X μ0 μ H locs) (hl : lv_has ls nL lv) (n : Nat) (hM : vy_Met (zz_l Z) y (ws_ y b ml rt) rm (cPc X As μ H.size) Qc XC mc ms free) (hq : GoodIn lw_all (va_wsS own index y (ws_ y b ml rt))) (hd : y.cls ≠ "java/lang/invoke/MethodHandle" ∧ y.cls ≠ "java/lang/invoke/VarHandle" ∧ (parseMethodDescriptor y.desc).map (fun d => d.parameters.length) = some n) (hrm : crm rm mc ms F N ml) (hW : (rest.map fun v => v.category).sum ≤ 8) (d : decode cc pc = .ok (.invokestatic index, 3)) (hn : As.length = n) (hs : stk = As.reverse ++ rest) (hf : kk + mc ≤ (zz_R Z).cells ∧ nn + ms ≤ (zz_R Z).slots) : yRun Z H locs kk nn mc ms pc ls stk rest (Qc As.toArray) XC free :=
  vy_runS (As := As) (rest := rest) ⟨C.x, C.b, C.ml, C.o, C.w⟩ hM (va_cwS n C.w hq rfl hrm.1 hrm.2.1 hd ⟨Nat.le_trans hrm.2.2.1 C.f, Nat.le_trans hrm.2.2.2 C.nn⟩) ⟨cPc_blind, fun U hU hW => cPc_to hK hI hU hW⟩ rfl hn hl.1 hs (lv_room hW) d hf
theorem dy_V (C : gC Z cc nL own ret F N) (hK : cCt Z X μ0) (hI : cI Z X μ0 μ H locs) (hl : lv_has ls nL lv) (n : Nat) (hrecv : ∃ cell : Cell, H[a]? = some cell ∧ cell.vm.isStatics = false ∧ (zz_s Z).vm.findClass Cn = some cell.cls) (hM : ∃ rm, crm rm mc ms fr lo ml ∧ vy_Met (zz_l Z) y (ws_ y b ml rt) rm (cPc X (.ref a :: As) μ H.size) Qc XC mc ms free) (hF : fr ≤ F) (hN : lo ≤ N) (hq : GoodIn lw_all (wsV own index Cn y (ws_ y b ml rt))) (hd : y.cls = Cn ∧ y.cls ≠ "java/lang/invoke/MethodHandle" ∧ y.cls ≠ "java/lang/invoke/VarHandle" ∧ (parseMethodDescriptor y.desc).map (fun d => d.parameters.length) = some n) (hW : (rest.map fun v => v.category).sum ≤ 8) (d : decode cc pc = .ok (.invokevirtual index, 3)) (hn : As.length = n) (hs : stk = As.reverse ++ .ref a :: rest) (hf : kk + mc ≤ (zz_R Z).cells ∧ nn + ms ≤ (zz_R Z).slots) : yRun Z H locs kk nn mc ms pc ls stk rest (Qc (Value.ref a :: As).toArray) XC free := by
  obtain ⟨rm, h, hM⟩ := hM
  exact cy_V C hK hI hl n hrecv hM hq hd ⟨h.1, h.2.1, Nat.le_trans h.2.2.1 hF, Nat.le_trans h.2.2.2 hN⟩ hW d hn hs hf
/-- a method with a table of its own -/
theorem cr_VW {hh : List (Nat × Nat × Nat × Nat)} (C : gC Z cc nL own ret F N) (hK : cCt Z X μ0) (hI : cI Z X μ0 μ H locs) (hl : lv_has ls nL lv) (n : Nat) (hrecv : ∃ cell : Cell, H[a]? = some cell ∧ cell.vm.isStatics = false ∧ (zz_s Z).vm.findClass Cn = some cell.cls) (hM : Met (zz_l Z) y (wsW_ y b ml rt hh) rm (cPc X (.ref a :: As) μ H.size) Qc mc ms free) (hq : GoodIn lw_all (wsV own index Cn y (wsW_ y b ml rt hh))) (hd : y.cls = Cn ∧ y.cls ≠ "java/lang/invoke/MethodHandle" ∧ y.cls ≠ "java/lang/invoke/VarHandle" ∧ (parseMethodDescriptor y.desc).map (fun d => d.parameters.length) = some n) (hrm : crm rm mc ms F N ml) (hW : (rest.map fun v => v.category).sum ≤ 8) (d : decode cc pc = .ok (.invokevirtual index, 3)) (hn : As.length = n) (hs : stk = As.reverse ++ .ref a :: rest) (hf : kk + mc ≤ (zz_R Z).cells ∧ nn + ms ≤ (zz_R Z).slots) : cRun Z H locs kk nn mc ms pc ls stk rest (Qc (Value.ref a :: As).toArray) free :=
  vy_runVW (hh := hh) (As := As) (rest := rest) ⟨C.x, C.b, C.ml, C.o, C.w⟩ hM (vy_cwVW n C.w hq rfl hrm.1 hrm.2.1 hd ⟨Nat.le_trans hrm.2.2.1 C.f, Nat.le_trans hrm.2.2.2 C.nn⟩) ⟨cPc_blind, hrecv, fun U hU hW => cPc_to hK hI hU hW⟩ rfl hn hl.1 hs (lv_room hW) d hf
theorem cy_ri {Q : Int → CM → Prop} {As : Array Value} (hI : cI Z X μ0 μ H locs) (hl : lv_has ls nL (toL L)) (hfree : ∀ q, free q → cA X μ H.size q) (hr : yRun Z H locs kk nn mc ms pc ls st0 (S.map toV) (cQi X μ H.size Q As) (cXQ X μ H.size En XQ) free) (Kx : ∀ q μ', XQ q μ' → xG Z nL (cI Z X μ0 μ') (kk + mc) (nn + ms) pc L S En q) (K : ∀ r μ', Q r μ' → hG Z nL (cI Z X μ0 μ') (kk + mc) (nn + ms) (pc + 3) L (aI r :: S)) : W (zz_p Z) (zz_l Z) (zz_e Z) (zz_R Z) (zz_s Z) (zz_m Z) (zz_a Z) (zz_b Z) (zz_t Z) (zz_c Z) H locs kk nn (zz_q Z) (F0 (zz_m Z) pc ls st0) := by
  intro T hT St
  rcases hr T hT St with ⟨v, st₀, t, T', L1, h0, X', hL, e1, e2, ⟨⟨r, u, hv, hp, hb⟩, hF⟩, st⟩ | ⟨q, st₀, t, T', L1, E, ce, h0, X', hL, e1, e2, ⟨hE, u, hp, hb, hF⟩, hce, hcv, hcl, st⟩
  · cases hv
    obtain ⟨k1, k2, k3⟩ := vy_keep h0 e1 hI.2.1 (fun q _ h => cA_sub hI q h) (fun q h => cA_sub hI q (hfree q h)) hL hF
    obtain ⟨e, hq1⟩ := hp
    obtain ⟨t2, a1, b1⟩ := K u.1 u.2 hq1 T'.heap (locs ++ L1) (cI_back hI e1.symm hb k3) ls hl T' rfl X'
    rw [e] at st
    exact ⟨t2, st t2 a1, b1⟩
  · obtain ⟨k1, k2, k3⟩ := vy_keep h0 e1 hI.2.1 (fun q _ h => cA_sub hI q h) (fun q h => cA_sub hI q (hfree q h)) hL hF
    subst hE
    obtain ⟨t2, a1, b1⟩ := Kx q u hp T'.heap (locs ++ L1) (cI_back hI e1.symm hb k3) ls hl ce (by rw [e1]; exact hce) hcv hcl T' rfl X'
    exact ⟨t2, st.trans a1, b1⟩
theorem cy_rr {Q : Option Nat → CM → Prop} {As : Array Value} (hI : cI Z X μ0 μ H locs) (hl : lv_has ls nL (toL L)) (hfree : ∀ q, free q → cA X μ H.size q) (hr : yRun Z H locs kk nn mc ms pc ls st0 (S.map toV) (cQr X μ H.size Q As) (cXQ X μ H.size En XQ) free) (Kx : ∀ q μ', XQ q μ' → xG Z nL (cI Z X μ0 μ') (kk + mc) (nn + ms) pc L S En q) (K : ∀ r μ', Q r μ' → hG Z nL (cI Z X μ0 μ') (kk + mc) (nn + ms) (pc + 3) L (aR r :: S)) : W (zz_p Z) (zz_l Z) (zz_e Z) (zz_R Z) (zz_s Z) (zz_m Z) (zz_a Z) (zz_b Z) (zz_t Z) (zz_c Z) H locs kk nn (zz_q Z) (F0 (zz_m Z) pc ls st0) := by
  intro T hT St
  rcases hr T hT St with ⟨v, st₀, t, T', L1, h0, X', hL, e1, e2, ⟨⟨r, u, hv, hp, hb⟩, hF⟩, st⟩ | ⟨q, st₀, t, T', L1, E, ce, h0, X', hL, e1, e2, ⟨hE, u, hp, hb, hF⟩, hce, hcv, hcl, st⟩
  · cases hv
    obtain ⟨k1, k2, k3⟩ := vy_keep h0 e1 hI.2.1 (fun q _ h => cA_sub hI q h) (fun q h => cA_sub hI q (hfree q h)) hL hF
    obtain ⟨t2, a1, b1⟩ := K r u hp T'.heap (locs ++ L1) (cI_back hI e1.symm hb k3) ls hl T' rfl X'
    exact ⟨t2, st t2 a1, b1⟩
  · obtain ⟨k1, k2, k3⟩ := vy_keep h0 e1 hI.2.1 (fun q _ h => cA_sub hI q h) (fun q h => cA_sub hI q (hfree q h)) hL hF
    subst hE
    obtain ⟨t2, a1, b1⟩ := Kx q u hp T'.heap (locs ++ L1) (cI_back hI e1.symm hb k3) ls hl ce (by rw [e1]; exact hce) hcv hcl T' rfl X'
    exact ⟨t2, st.trans a1, b1⟩
theorem cy_rv {Q : CM → Prop} {As : Array Value} (hI : cI Z X μ0 μ H locs) (hl : lv_has ls nL (toL L)) (hfree : ∀ q, free q → cA X μ H.size q) (hr : yRun Z H locs kk nn mc ms pc ls st0 (S.map toV) (cQv X μ H.size Q As) (cXQ X μ H.size En XQ) free) (Kx : ∀ q μ', XQ q μ' → xG Z nL (cI Z X μ0 μ') (kk + mc) (nn + ms) pc L S En q) (K : ∀ μ', Q μ' → hG Z nL (cI Z X μ0 μ') (kk + mc) (nn + ms) (pc + 3) L S) : W (zz_p Z) (zz_l Z) (zz_e Z) (zz_R Z) (zz_s Z) (zz_m Z) (zz_a Z) (zz_b Z) (zz_t Z) (zz_c Z) H locs kk nn (zz_q Z) (F0 (zz_m Z) pc ls st0) := by
  intro T hT St
  rcases hr T hT St with ⟨v, st₀, t, T', L1, h0, X', hL, e1, e2, ⟨⟨u, hv, hp, hb⟩, hF⟩, st⟩ | ⟨q, st₀, t, T', L1, E, ce, h0, X', hL, e1, e2, ⟨hE, u, hp, hb, hF⟩, hce, hcv, hcl, st⟩
  · cases hv
    obtain ⟨k1, k2, k3⟩ := vy_keep h0 e1 hI.2.1 (fun q _ h => cA_sub hI q h) (fun q h => cA_sub hI q (hfree q h)) hL hF
    obtain ⟨t2, a1, b1⟩ := K u hp T'.heap (locs ++ L1) (cI_back hI e1.symm hb k3) ls hl T' rfl X'
    exact ⟨t2, st t2 a1, b1⟩
  · obtain ⟨k1, k2, k3⟩ := vy_keep h0 e1 hI.2.1 (fun q _ h => cA_sub hI q h) (fun q h => cA_sub hI q (hfree q h)) hL hF
    subst hE
    obtain ⟨t2, a1, b1⟩ := Kx q u hp T'.heap (locs ++ L1) (cI_back hI e1.symm hb k3) ls hl ce (by rw [e1]; exact hce) hcv hcl T' rfl X'
    exact ⟨t2, st.trans a1, b1⟩
/-- it leaves this method -/
theorem cy_out (C : gC Z cc nL own ret F N) (hX : ∀ x ∈ (zz_c Z).exceptionTable.toList, False) (hQ : zz_q Z = vy_MQ (zz_b Z) Qc (cXQ X μ0 (zz_s Z).heap.size En XQ) (zz_a Z) (zz_s Z) mc ms (cA X μ0 (zz_s Z).heap.size)) (h1 : kk ≤ mc) (h2 : nn ≤ ms) {q : Nat} (hx : XQ q μ) : xG Z nL (cI Z X μ0 μ) kk nn pc L S En q := fun H locs hI ls hl ce hc hv hcl => by
  rw [hQ]
  exact vy_out (fun x hx => (hX x hx).elim) C.lk hc hv hcl (fun t ht hvm => ⟨rfl, μ, hx, cI_bk hI ht, hI.2.1.F ht⟩) hI.2.1.2.2 h1 h2
/-- it is caught here -/
theorem cy_catch (C : gC Z cc nL own ret F N) (hK : cCt Z X μ0) (x : ExceptionTableEntry) (suf : List ExceptionTableEntry) (hX : (zz_c Z).exceptionTable.toList = x :: suf) {q : Nat} (hx : covers x pc = true) (h0 : x.catchType ≠ 0) (hlk : Cond.classLink own x.catchType En ∈ lw_all) (hcs : Cond.castable En En ∈ cNw) {tgt : Nat} (ht : x.handlerPc = tgt) (K : hG Z nL (cI Z X μ0 μ) kk nn tgt L [aR (some q)]) : xG Z nL (cI Z X μ0 μ) kk nn pc L S En q := fun H locs hI ls hl ce hc hv hcl =>
  vy_catch C.o [] x suf hX (fun z hz => by cases hz) hx h0 (C.w _ hlk) (va_Nw.use rfl (hK.1.2.2.1 _ hcs)) hc hv hcl (by rw [ht]; exact K H locs hI ls hl)
theorem cy_athrow (C : gC Z cc nL own ret F N) (hK : cCt Z X μ0) {ci : Nat} {T : u_T} {Nn : Nat} (hc : cCl[ci]? = some (En, T, Nn)) {fs : List Value} (he : cdE X μ a = some (.inr (ci, fs))) (d : decode cc pc = .ok (.athrow, 1)) (K : xG Z nL (cI Z X μ0 μ) kk nn pc L S En a) : hG Z nL (cI Z X μ0 μ) kk nn pc L (aR (some a) :: S) := fun H locs hI ls hl => by
  obtain ⟨q', h1, cell, g1, g2, g3, -⟩ := hI.1.2.1 a _ he
  exact vy_athrow C.x C.b d (K H locs hI ls hl cell g1 g3 (by rw [g2]; exact (hK.1.1.1 ci _ hc).2.1))
/-- returns -/
abbrev zq (Z : zz) (q : State → Prop) : zz := (zz_p Z, zz_l Z, zz_e Z, zz_R Z, zz_s Z, zz_m Z, zz_a Z, zz_b Z, zz_t Z, zz_c Z, q)
theorem cy_iret {ty : FieldType} {Q : Int → CM → Prop} (C : gC Z cc nL own (some ty) F N) (hQ : zz_q Z = vy_MQ (zz_b Z) (cQi X μ0 (zz_s Z).heap.size Q) XC (zz_a Z) (zz_s Z) mc ms (cA X μ0 (zz_s Z).heap.size)) (h1 : kk ≤ mc) (h2 : nn ≤ ms) {r : Int} (hn : narrow ty (.int (i32 r)) = .int (i32 r)) (hq : Q r μ) (d : decode cc pc = .ok (.ireturn, 1)) : hG Z nL (cI Z X μ0 μ) kk nn pc L [aI r] := fun H locs hI ls hl => by
  rw [hQ]
  exact vy_ret (cx_iret (Z := zq Z (MQ (zz_b Z) (cQi X μ0 (zz_s Z).heap.size Q) (zz_a Z) (zz_s Z) mc ms (cA X μ0 (zz_s Z).heap.size))) (cc := cc) (own := own) (F := F) (N := N) C rfl h1 h2 hn hq d H locs hI ls hl)
theorem cy_aret {ty : FieldType} {Q : Option Nat → CM → Prop} (C : gC Z cc nL own (some ty) F N) (hQ : zz_q Z = vy_MQ (zz_b Z) (cQr X μ0 (zz_s Z).heap.size Q) XC (zz_a Z) (zz_s Z) mc ms (cA X μ0 (zz_s Z).heap.size)) (h1 : kk ≤ mc) (h2 : nn ≤ ms) {r : Option Nat} (hty : (∃ n, ty = .object n) ∨ ∃ t, ty = .array t) (hq : Q r μ) (d : decode cc pc = .ok (.areturn, 1)) : hG Z nL (cI Z X μ0 μ) kk nn pc L [aR r] := fun H locs hI ls hl => by
  rw [hQ]
  exact vy_ret (cx_aret (Z := zq Z (MQ (zz_b Z) (cQr X μ0 (zz_s Z).heap.size Q) (zz_a Z) (zz_s Z) mc ms (cA X μ0 (zz_s Z).heap.size))) (cc := cc) (own := own) (F := F) (N := N) C rfl h1 h2 hty hq d H locs hI ls hl)
theorem cy_vret {Q : CM → Prop} (C : gC Z cc nL own none F N) (hQ : zz_q Z = vy_MQ (zz_b Z) (cQv X μ0 (zz_s Z).heap.size Q) XC (zz_a Z) (zz_s Z) mc ms (cA X μ0 (zz_s Z).heap.size)) (h1 : kk ≤ mc) (h2 : nn ≤ ms) (hq : Q μ) (d : decode cc pc = .ok (.return_, 1)) : hG Z nL (cI Z X μ0 μ) kk nn pc L [] := fun H locs hI ls hl => by
  rw [hQ]
  exact vy_ret (cx_vret (Z := zq Z (MQ (zz_b Z) (cQv X μ0 (zz_s Z).heap.size Q) (zz_a Z) (zz_s Z) mc ms (cA X μ0 (zz_s Z).heap.size))) (cc := cc) (own := own) (F := F) (N := N) C rfl h1 h2 hq d H locs hI ls hl)
/-- bodies -/
theorem cy_met2 {l : Launch} {As : List AV} {L0 : List (Nat × AV)} {sz : Nat} (hy : plainName y.cls = true) (hcl : y.cls = own) (hlen : (As.map avc).sum ≤ nL) (hlv : av_args 0 As = L0) (body : ∀ Z : zz, gC Z cc nL own ret rm.frames rm.locals → cCt Z X μ → (zz_s Z).heap.size = sz → (zz_R Z) = rm → zz_l Z = l → (zz_t Z).name = y.name → (∀ x ∈ (zz_c Z).exceptionTable.toList, False) → zz_q Z = vy_MQ (zz_b Z) Qc XC (zz_a Z) (zz_s Z) rm.cells rm.slots (cA X μ sz) → hG Z nL (cI Z X μ μ) 0 0 0 L0 []) : vy_Met l y (ws_ y cc nL ret) rm (cPc X (As.map toV) μ sz) Qc XC rm.cells rm.slots (cA X μ sz) := by
  refine vy_ofW (cc := cc) (maxL := nL) (ret := ret) hy rfl ?_
  intro p e s m args below meth c s₁ B hml hX hv
  obtain ⟨rfl, hsz, hP, hK, hH, hwf⟩ := hv
  subst hsz
  have hts := atoms_spec (ws := ws_ y cc nL ret) B.pre
  have hts : ∀ w ∈ lw_all, w.before _ s = true := fun w h => hts w (List.mem_cons_of_mem _ h)
  have hown : s.vm.findClass own = some m.cls := by
    have h := findClass_of_methodNamed B.named
    rw [hcl] at h
    exact h
  have hl := lv_entry (As.map toV) (n := nL) (by rw [av_sl]; exact hlen)
  rw [av_args_eq, hlv] at hl
  rw [lg_entry_eq]
  exact body (p, l, e, (headSpec (ws_ y cc nL ret) rm).room, s, m, (As.map toV).toArray, below, meth, c, vy_MQ below Qc XC (As.map toV).toArray s rm.cells rm.slots (cA X μ s.heap.size)) ⟨B.exec, B.bytes, hml, hown, hts, B.returns, B.notSynchronized, Nat.le_refl _, Nat.le_refl _⟩ ⟨hK, hH⟩ rfl rfl rfl (name_of_methodNamed B.named B.method).1 hX rfl s.heap [] ⟨hP, va_S.rf, fun q h => Or.inl h, cst.rf, hwf⟩ _ hl
theorem cz_met2 {l : Launch} {As : List AV} {L0 : List (Nat × AV)} {sz : Nat} {hh : List (Nat × Nat × Nat × Nat)} (hy : plainName y.cls = true) (hcl : y.cls = own) (hlen : (As.map avc).sum ≤ nL) (hlv : av_args 0 As = L0) (body : ∀ Z : zz, gC Z cc nL own ret rm.frames rm.locals → cCt Z X μ → (zz_s Z).heap.size = sz → (zz_R Z) = rm → zz_l Z = l → (zz_t Z).name = y.name → (zz_c Z).exceptionTable.toList = tableOf hh → zz_q Z = MQ (zz_b Z) Qc (zz_a Z) (zz_s Z) rm.cells rm.slots (cA X μ sz) → hG Z nL (cI Z X μ μ) 0 0 0 L0 []) : Met l y (wsW_ y cc nL ret hh) rm (cPc X (As.map toV) μ sz) Qc rm.cells rm.slots (cA X μ sz) := by
  refine va_MetW (cc := cc) (maxL := nL) (ret := ret) (hh := hh) hy rfl ?_
  intro p e s m args below meth c s₁ B hml hv
  obtain ⟨rfl, hsz, hP, hK, hH, hwf⟩ := hv
  subst hsz
  have hts0 := atoms_spec (ws := wsW_ y cc nL ret hh) B.pre
  have hts : ∀ w ∈ lw_all, w.before _ s = true := fun w h => hts0 w (List.mem_cons_of_mem _ h)
  have hX := vy_table (x := y) B (hts0 _ List.mem_cons_self)
  have hown : s.vm.findClass own = some m.cls := by
    have h := findClass_of_methodNamed B.named
    rw [hcl] at h
    exact h
  have hl := lv_entry (As.map toV) (n := nL) (by rw [av_sl]; exact hlen)
  rw [av_args_eq, hlv] at hl
  rw [lg_entry_eq]
  exact body (p, l, e, (headSpec (wsW_ y cc nL ret hh) rm).room, s, m, (As.map toV).toArray, below, meth, c, MQ below Qc (As.map toV).toArray s rm.cells rm.slots (cA X μ s.heap.size)) ⟨B.exec, B.bytes, hml, hown, hts, B.returns, B.notSynchronized, Nat.le_refl _, Nat.le_refl _⟩ ⟨hK, hH⟩ rfl rfl rfl (name_of_methodNamed B.named B.method).1 hX rfl s.heap [] ⟨hP, va_S.rf, fun q h => Or.inl h, cst.rf, hwf⟩ _ hl
end CY
