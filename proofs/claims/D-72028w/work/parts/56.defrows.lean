/-! a default method through a class; interface calls of virtual methods -/
section CX8
theorem va_callVD {p : Program} {l : Launch} {e : Env} {R : Room} {s : State} {m : MethodId} {args : Array Value} {below : List Frame} {meth : Method} {c : Code} {T : State} {locs : List Loc} {cells slots : Nat} (X : Stand p l e R s m args below meth c T locs cells slots) (hexec : p.tables.exec = Jvm.exec) {own C owner : String} {index : Nat} {x y : MethodName}
    (hown : s.vm.findClass own = some m.cls) (hlink : (Cond.methodLink own index x).before args s = true) (hsame : (Cond.sameMethod x.cls owner x.name x.desc).before args s = true)
    (hd0 : va_Decl s ⟨owner, x.name, x.desc⟩) (howner : owner ≠ "java/lang/invoke/MethodHandle" ∧ owner ≠ "java/lang/invoke/VarHandle")
    (hsel : (Cond.landsInDefault C x y).before args s = true) (hinst : (Cond.instanceMethod y).before args s = true)
    {W : Nat} {Pre : Pt → Array Value → Prop} {Post : Pt → Array Value → Option Value → Pt → Prop} (hK : Back l R p e below s args y 3 W Pre Post)
    {b : Addr} {cellB : Cell} (hcell : T.heap[b]? = some cellB) (hobj : cellB.vm.isStatics = false) (hcls : s.vm.findClass C = some cellB.cls)
    {g : JFrame} (hg : g.method = m) (hsize : g.locals.size = c.maxLocals) {argsL rest : List Value} (hlen : ∀ sig, parseMethodDescriptor x.desc = some sig → argsL.length = sig.parameters.length)
    (hstack : g.stack = argsL.reverse ++ .ref b :: rest) (hW : 2 * g.monitorRoom + (rest.map fun v => v.category).sum ≤ W) (hdg : decode c.code g.pc = .ok (.invokevirtual index, 3))
    (hpre : ∀ vm₁, s.WarmedH vm₁ → Pre ⟨T.setVm vm₁, locs, cells, slots⟩ (Value.ref b :: argsL).toArray) :
    ∃ (v : Option Value) (vm₁ : Vm) (B : Pt), s.WarmedH vm₁ ∧ Stand p l e R s m args below meth c B.U B.locs B.cells B.slots ∧ Post ⟨T.setVm vm₁, locs, cells, slots⟩ (Value.ref b :: argsL).toArray v B ∧
      ∀ target, Steps p.tables e below (B.U.setTop { g with pc := g.pc + 3, stack := v.toList ++ rest }) target → Steps p.tables e below (T.setTop g) target := by
  obtain ⟨r0, r, hn, hrm, hstR, hsigR⟩ := hd0
  obtain ⟨cn, ck, r1, hcn, hck, hni, hf, hn1⟩ := Cond.sameMethod_found hsame
  cases hn.symm.trans hn1
  obtain ⟨mk, methM, hnamed, hmethM, -, habM⟩ := Cond.instanceMethod_spec hinst
  obtain ⟨c2, r2, m2, rm2, q1, q2, q3, q5, q4, ⟨kP, hkP, hkPi⟩, -, q7⟩ := Cond.landsInDefault_spec hsel
  cases hcls.symm.trans q1
  cases hf.symm.trans q2
  cases hnamed.symm.trans q3
  cases hrm.symm.trans q5
  have hselP : selectMethod e.platform s.vm cellB.cls r0 = .method mk := by rw [Launch.admits_selectMethod X.admits]; exact q4
  obtain ⟨vm₁, X₁, hstep₁⟩ := X.invokevirtualUpD hexec hown hlink hsame howner hn hrm hstR (a := b) (cell := cellB) hcell
    (fun z h => by rw [h] at hobj; cases hobj) hselP hmethM habM hkP hkPi q7 (g := g) hg (argsL := argsL) (rest := rest) (hlen _ hsigR) hstack hdg
  obtain ⟨v, B, X', hpost, hsteps⟩ := hK m meth c ⟨T.setVm vm₁, locs, cells, slots⟩ { g with stack := rest } (.invokevirtual index) mk (Value.ref b :: argsL).toArray X₁ hg hsize hdg hW (X₁.named hnamed) (hpre vm₁ X₁.warmed)
  exact ⟨v, vm₁, B, X₁.warmed, X', hpost, fun target h => hstep₁ _ fun acts => by rw [doInvoke_state]; exact hsteps.trans h⟩
variable {Z : zz} {X : cX} {μ0 μ μ' : CM} {cc : ByteArray} {nL : Nat} {own : String} {ret : Option FieldType} {F N kk nn pc : Nat} {L : List (Nat × AV)} {S : List AV} {a len : Nat}
variable {H : Heap} {locs : List Loc} {ls : Array Slot} {lv : List (Nat × Value)} {stk : List Value} {y : MethodName} {b : ByteArray} {ml index n mc ms : Nat} {rt : Option FieldType} {rm : Room} {Cn : String} {As rest : List Value} {Qc : Array Value → State → Outcome → State → Prop} {free : Addr → Prop}
theorem cr_D {x : MethodName} {owner : String} (C : gC Z cc nL own ret F N) (hK : cCt Z X μ0) (hI : cI Z X μ0 μ H locs) (hl : lv_has ls nL lv) (n : Nat) (hrecv : ∃ cell : Cell, H[a]? = some cell ∧ cell.vm.isStatics = false ∧ (zz_s Z).vm.findClass Cn = some cell.cls) (hM : Met (zz_l Z) y (ws_ y b ml rt) rm (cPc X (.ref a :: As) μ H.size) Qc mc ms free) (hlk : (Cond.methodLink own index x).before (zz_a Z) (zz_s Z) = true) (hsm : (Cond.sameMethod x.cls owner x.name x.desc).before (zz_a Z) (zz_s Z) = true) (hdc : va_Decl (zz_s Z) ⟨owner, x.name, x.desc⟩) (hsel : (Cond.landsInDefault Cn x y).before (zz_a Z) (zz_s Z) = true) (hst : Cond.instanceMethod y ∈ lw_all) (hin : Cond.initialized y.cls ∈ lw_all) (hq : Cond.code y b ml rt ∈ lw_all) (hd : owner ≠ "java/lang/invoke/MethodHandle" ∧ owner ≠ "java/lang/invoke/VarHandle" ∧ (parseMethodDescriptor x.desc).map (fun d => d.parameters.length) = some n) (hrm : crm rm mc ms F N ml) (hW : (rest.map fun v => v.category).sum ≤ 8) (d : decode cc pc = .ok (.invokevirtual index, 3)) (hn : As.length = n) (hs : stk = As.reverse ++ .ref a :: rest) (hf : kk + mc ≤ (zz_R Z).cells ∧ nn + ms ≤ (zz_R Z).slots) : cRun Z H locs kk nn mc ms pc ls stk rest (Qc (Value.ref a :: As).toArray) free := by
  have hini := C.w _ hin
  have hB : Back (zz_l Z) (zz_R Z) (zz_p Z) (zz_e Z) (zz_b Z) (zz_s Z) (zz_a Z) y 3 8 (PreOf (zz_R Z) mc ms (cPc X (.ref a :: As) μ H.size)) (PostOf Qc mc ms free) := back_of (bytes := b) (maxL := ml) (ret := rt) hM cPc_blind hrm.1 hrm.2.1 (Nat.le_trans hrm.2.2.1 C.f) (Nat.le_trans hrm.2.2.2 C.nn) (pay_in C.w (lw_meth hq)) List.mem_cons_self (fun a' U hW => word_at hW (Or.inl (by first | rfl | simp [Cond.onTables, Cond.keeps, Cond.steady])) hini)
  obtain ⟨cellB, hcB, hoB, hclB⟩ := hrecv
  intro T hT St
  have hlen : ∀ sig, parseMethodDescriptor x.desc = some sig → As.length = sig.parameters.length := fun sig h => by
    have h2 := hd.2.2
    rw [h] at h2
    exact hn.trans (Option.some.inj h2).symm
  obtain ⟨v, vm₁, ⟨U', l2, c2, s2⟩, hW₁, X', ⟨g', mk, t, L, e1, e2, hq, h1, hL, h2, h3⟩, st⟩ := va_callVD St C.x (C := Cn) (owner := owner) C.o hlk hsm hdc ⟨hd.1, hd.2.1⟩ hsel (C.w _ hst) hB (by rw [hT]; exact hcB) hoB hclB rfl (hl.1.trans C.ml.symm) (argsL := As) (rest := rest) hlen hs (lv_room hW) (by rw [C.b]; exact d)
    (fun vm₁ hW₁ => ⟨hf.1, hf.2, cPc_to hK hI hT hW₁⟩)
  dsimp only [Pt.U, Pt.locs, Pt.cells, Pt.slots] at X' e1 e2 h1 h2 h3 st
  subst h1; subst h2; subst h3
  exact ⟨v, (T.setVm vm₁).calling g' mk (Value.ref a :: As).toArray, t, U', L, hT, X', hL, e1, e2, hq, st⟩
end CX8
theorem cLd.at {U : State} (g : cLd U) {C : String} (hC : C ∈ ["BinderPress$Name", "BinderPress$Sign", "BinderPress$Put", "BinderPress$Binder"]) {A : Array Value} : (Cond.landsInDefault C ⟨"BinderPress$Term", "isSmall", "()Z"⟩ ⟨"BinderPress$Sized", "isSmall", "()Z"⟩).before A U = true := by
  have := g.2 C hC
  simp only [Cond.before, Cond.holds, Cond.value] at this ⊢
  exact this
theorem csr_1 (X : cX) (μ : CM) (f : Nat → Option Nat) : (csW X μ).set 2 (cX_a X 1, .inl (cX_c X 2, 4, .inr (.inr (.inr (.inr f))))) = csW X (pkrR μ 1 f) := rfl
theorem csr_3 (X : cX) (μ : CM) (f : Nat → Option Nat) : (csW X μ).set 4 (cX_a X 3, .inl (cX_c X 2, 10, .inr (.inr (.inr (.inr f))))) = csW X (pkrR μ 3 f) := rfl
theorem csr_4 (X : cX) (μ : CM) (f : Nat → Int) : (csW X μ).set 5 (cX_a X 4, .inl (cX_c X 0, 10, .inl (fun j => i32 (f j)))) = csW X (pkrI μ 4 f) := rfl
section CX9
variable {Z : zz} {X : cX} {μ0 μ μ' : CM} {cc : ByteArray} {nL : Nat} {own : String} {ret : Option FieldType} {F N kk nn pc : Nat} {L : List (Nat × AV)} {S : List AV} {a a0 n0 n1 len index : Nat}
theorem cx_copyT (C : gC Z cc nL own ret F N) (hK : cCt Z X μ0) (q1 : Cond.methodLink own index arraycopyName ∈ lw_all) (q2 : Cond.native arraycopyName ∈ lw_all) (q3 : Cond.static arraycopyName ∈ lw_all) (q4 : Cond.initialized "java/lang/System" ∈ lw_all) {sp dp m : Int} {f g : Nat → Option Nat} (he : cEn X μ a0 (.inl (cX_c X 2, n0, .inr (.inr (.inr (.inr f)))))) (hu : cUp X μ a (.inl (cX_c X 2, n1, .inr (.inr (.inr (.inr g))))) (.inl (cX_c X 2, n1, .inr (.inr (.inr (.inr (va_cpy f g sp.toNat dp.toNat m.toNat)))))) μ') (hb : (0 ≤ sp ∧ 0 ≤ dp ∧ 0 ≤ m) ∧ (sp + m ≤ (n0 : Int) ∧ dp + m ≤ (n1 : Int)) ∧ n0 < 2147483648 ∧ n1 < 2147483648) (hel : ∀ i : Nat, (i : Int) < m → ∀ v, f (sp.toNat + i) = some v → 5 ≤ tg μ v ∧ tg μ v ≤ 8) (hF : 1 ≤ F) (hN : ((S.map toV).map fun v => v.category).sum + (nativeFrameWords "java/lang/System" "arraycopy" 5 + 11) ≤ N) (d : decode cc pc = .ok (.invokestatic index, 3)) (K : hG Z nL (cI Z X μ0 μ') kk nn (pc + 3) L S) : hG Z nL (cI Z X μ0 μ) kk nn pc L (aI m :: aI dp :: aR (some a) :: aI sp :: aR (some a0) :: S) := fun H locs hI ls hl => by
  obtain ⟨⟨b1, b2, b3⟩, ⟨b4, b5⟩, b6, b7⟩ := hb
  have c1 := i32_cl b1 (by omega)
  have c2 := i32_cl b2 (by omega)
  have c3 := i32_cl b3 (by omega)
  obtain ⟨q, hq, up⟩ := hu.up hI
  obtain ⟨j, hj⟩ := he.at hI.1
  exact va_copyM C.x C.b (C.ml.trans hl.1.symm) C.o (C.w _ q1) (C.w _ q2) (C.w _ q3) (C.w _ q4) hK.1.1 (hI.1.P H.size) (cI_D hK hI) hI.2.1 j q 2 2 hj hq rfl rfl (i32_nn b1 (by omega)) (i32_nn b2 (by omega)) (i32_nn b3 (by omega)) (by rw [c1, c3]; omega) (by rw [c2, c3]; omega) (fun i hi y hy => by
    rw [c3] at hi
    rw [c1] at hy
    exact (cany_T (X := X) (r := some y) (fun v hv => hel i (by omega) v (by rw [hy]; exact hv))).any hK hI) (Nat.le_trans hF C.f) (Nat.le_trans hN C.nn) d (fun H1 locs1 hP _ hS => K H1 locs1 (up H1 locs1 (by rw [c1, c2, c3] at hP; exact hP) hS) ls hl)
theorem cx_copyI (C : gC Z cc nL own ret F N) (hK : cCt Z X μ0) (q1 : Cond.methodLink own index arraycopyName ∈ lw_all) (q2 : Cond.native arraycopyName ∈ lw_all) (q3 : Cond.static arraycopyName ∈ lw_all) (q4 : Cond.initialized "java/lang/System" ∈ lw_all) {sp dp m : Int} {f g : Nat → Int} (he : cEn X μ a0 (.inl (cX_c X 0, n0, .inl (fun j => i32 (f j))))) (hu : cUp X μ a (.inl (cX_c X 0, n1, .inl (fun j => i32 (g j)))) (.inl (cX_c X 0, n1, .inl (fun j => i32 (va_cpy f g sp.toNat dp.toNat m.toNat j)))) μ') (hb : (0 ≤ sp ∧ 0 ≤ dp ∧ 0 ≤ m) ∧ (sp + m ≤ (n0 : Int) ∧ dp + m ≤ (n1 : Int)) ∧ n0 < 2147483648 ∧ n1 < 2147483648) (hF : 1 ≤ F) (hN : ((S.map toV).map fun v => v.category).sum + (nativeFrameWords "java/lang/System" "arraycopy" 5 + 11) ≤ N) (d : decode cc pc = .ok (.invokestatic index, 3)) (K : hG Z nL (cI Z X μ0 μ') kk nn (pc + 3) L S) : hG Z nL (cI Z X μ0 μ) kk nn pc L (aI m :: aI dp :: aR (some a) :: aI sp :: aR (some a0) :: S) := fun H locs hI ls hl => by
  obtain ⟨⟨b1, b2, b3⟩, ⟨b4, b5⟩, b6, b7⟩ := hb
  have c1 := i32_cl b1 (by omega)
  have c2 := i32_cl b2 (by omega)
  have c3 := i32_cl b3 (by omega)
  obtain ⟨q, hq, up⟩ := hu.up hI
  obtain ⟨j, hj⟩ := he.at hI.1
  exact va_copyi (ty := .int) C.x C.b (C.ml.trans hl.1.symm) C.o (C.w _ q1) (C.w _ q2) (C.w _ q3) (C.w _ q4) hK.1.1 (hI.1.P H.size) (cI_D hK hI) hI.2.1 j q 0 0 hj hq rfl rfl rfl (i32_nn b1 (by omega)) (i32_nn b2 (by omega)) (i32_nn b3 (by omega)) (by rw [c1, c3]; omega) (by rw [c2, c3]; omega) (fun _ _ => rfl) (Nat.le_trans hF C.f) (Nat.le_trans hN C.nn) d (fun H1 locs1 hP _ hS => K H1 locs1 (up H1 locs1 (by rw [cpy_i32, c1, c2, c3] at hP; exact hP) hS) ls hl)
theorem cx_aastA (C : gC Z cc nL own ret F N) (hK : cCt Z X μ0) {f : Nat → Option Nat} {i : Int} {v : Nat} (hu : cUp X μ a (.inl (cX_c X 4, len, .inr (.inr (.inr (.inr f))))) (.inl (cX_c X 4, len, .inr (.inr (.inr (.inr (va_up f i.toNat (some v))))))) μ') (ht : tg μ v = 22) (h0 : 0 ≤ i) (h1 : i < (len : Int)) (hlen : len < 2147483648) (d : decode cc pc = .ok (.aastore, 1)) (K : hG Z nL (cI Z X μ0 μ') kk nn (pc + 1) L S) : hG Z nL (cI Z X μ0 μ) kk nn pc L (aR (some v) :: aI i :: aR (some a) :: S) := fun H locs hI ls hl => by
  obtain ⟨q, hq, up⟩ := hu.up hI
  obtain ⟨kA, kT, g1, g2, g3, g4⟩ := hK.1.2.2.2.2.2.2.2.1
  have hin := i32_in h0 h1 hlen
  have hlt : (i32 i).toNatClampNeg < len := Nat.not_le.mp fun q => hin (Or.inr q)
  have h00 : ¬ i32 i < 0 := fun q => hin (Or.inl q)
  have hv : H[v]? = some (arrV (cX_c X 2) (ln μ v) (fun j => va_rf (oR μ v j))) := hI.1.2.1 v _ (cdA_2 ht)
  have hP := hI.1.P H.size
  have hD := cI_D hK hI
  refine W.aast C.x C.b (hP q _ hq) (fun q h => by cases h) (fun h => by cases h) g1 g2 rfl g3 ⟨h00, by show _ < (arrV _ _ _).slots.size; rw [arrV_size]; exact hlt⟩ hv (fun q h => by cases h) g3 g4 rfl rfl d fun H1 e z oq => ?_
  have hP1 : va_P (cX_D X) cCl ((cW X μ H.size).set q (a, .inl (cX_c X 4, len, .inr (.inr (.inr (.inr (va_up f (i32 i).toNatClampNeg (some v)))))))) H1 := hP.set hD hq (by
    show H1[a]? = some (vp_cell _ _)
    rw [e]
    rw [vp_cell_q, vp_cell_q, arrV_store]
    congr 2
    funext j
    by_cases hj : j = (i32 i).toNatClampNeg
    · subst hj
      simp [updV, va_up, va_rf]
    · simp [updV, va_up, hj]) oq
  rw [i32_ix h0 h1 hlen] at hP1
  exact K H1 _ (up H1 _ hP1 (hI.2.1.put z oq (hD.2 q _ hq))) ls hl
end CX9
theorem cx_newQL {Z : zz} {X : cX} {μ0 μ : CM} {cc : ByteArray} {nL : Nat} {own : String} {ret : Option FieldType} {F N kk nn pc : Nat} {L : List (Nat × AV)} {S : List AV} (C : gC Z cc nL own ret F N) (hK : cCt Z X μ0) (c t k : Nat) {m : Int} (hct : 20 + c = t) (hmk : m.toNat = k) {E : String} (hc : (cTy X)[c]? = some (cX_c X c, .object E)) (hE : E ∈ cAo) {index : Nat} (hq : Cond.classLink own index E ∈ lw_all) (ht : 20 ≤ 20 + c ∧ 20 + c ≤ 25) (he : ∀ (ν : CM) (a : Nat), tg ν a = 20 + c → cdE X ν a = some (.inl (cX_c X c, ln ν a, .inr (.inr (.inr (.inr (fun j => oR ν a j))))))) (h0 : 0 ≤ m) (hm : m ≤ 100000) (h1 : kk + 1 ≤ (zz_R Z).cells) (h2 : nn + k ≤ (zz_R Z).slots) (d : decode cc pc = .ok (.anewarray index, 3)) (K : ∀ a, tg μ a = 0 → hG Z nL (cI Z X μ0 (alc μ a t k)) (kk + 1) (nn + k) (pc + 3) L (aR (some a) :: S)) : hG Z nL (cI Z X μ0 μ) kk nn pc L (aI m :: S) := by
  subst hct
  subst hmk
  exact cx_newQ C hK c hc hE hq ht he h0 hm h1 h2 d K
