/-! rows of BinderPressModel's own instructions over its state -/
def mA (X : mX) : Nat → Prop := fun q => q ∈ mL X
def mK (X : mX) (U : State) : Prop := va_K (mX_D X) mCl [(mX_I X, .int), (mX_Z X, .boolean)] U ∧ (mL X).Nodup
theorem mK.moved {X : mX} {u U : State} (hvm : u.vm.Alike U.vm) (h : mK X u) : mK X U := ⟨va_K.moved hvm h.1, h.2⟩
theorem va_D_of {ws : va_W} {L : List Nat} (e : ws.map (fun q => q.1) = L) (h : L.Nodup) : va_D (fun q => q ∈ L) ws := by
  subst e
  refine ⟨fun i j p q hi hj hpq => ?_, fun k q hk => List.mem_map.mpr ⟨q, List.mem_of_getElem? hk, rfl⟩⟩
  have h1 : (ws.map (fun q => q.1))[i]? = some p.1 := by rw [List.getElem?_map, hi]; rfl
  have h2 : (ws.map (fun q => q.1))[j]? = some q.1 := by rw [List.getElem?_map, hj]; rfl
  obtain ⟨a1, b1⟩ := List.getElem?_eq_some_iff.mp h1
  obtain ⟨a2, b2⟩ := List.getElem?_eq_some_iff.mp h2
  exact (List.getElem_inj h).mp (by rw [b1, b2, hpq])
theorem mK.D {X : mX} {U : State} (h : mK X U) (σ : MS) : va_D (mA X) (mW X σ) := va_D_of (mW_L X σ) h.2
def mI (Z : zz) (X : mX) (σ : MS) (H : Heap) (locs : List Loc) : Prop := va_P (mX_D X) mCl (mW X σ) H ∧ va_S (mA X) (zz_s Z).heap H locs
def mPc (X : mX) (As : List Value) (σ : MS) : Array Value → State → Prop := va_Pc As (fun U => va_P (mX_D X) mCl (mW X σ) U.heap ∧ mK X U)
def mQi (X : mX) (Q : Int → MS → Prop) : Array Value → State → Outcome → State → Prop := va_Qi (fun (r : Int32) (u : Int × MS) => r = i32 u.1 ∧ Q u.1 u.2) (fun u t => va_P (mX_D X) mCl (mW X u.2) t.heap ∧ mK X t) (mA X)
def mQv (X : mX) (Q : MS → Prop) : Array Value → State → Outcome → State → Prop := va_Qv (fun (u : MS) => Q u) (fun u t => va_P (mX_D X) mCl (mW X u) t.heap ∧ mK X t) (mA X)
theorem mPc_blind {X : mX} {As : List Value} {σ : MS} : FrameBlind (mPc X As σ) := fun _ U _ _ q => ⟨q.1, q.2.1, mK.moved (Vm.Alike.refl U.vm) q.2.2⟩
theorem mz_n {v : Int} (h : v = 0 ∨ v = 1) : narrow .boolean (.int (i32 v)) = .int (i32 v) := by
  rcases h with rfl | rfl <;> rfl
theorem mz_f {v : Int} (h : v = 0 ∨ v = 1) : fits .boolean (.int (i32 v)) = true := by
  rcases h with rfl | rfl <;> rfl
theorem mz_v {v : Int} (h : v = 0 ∨ v = 1) : vp_nar .boolean (i32 v) = i32 v := by
  rcases h with rfl | rfl <;> rfl
section MX
variable {Z : zz} {X : mX} {σ σ' : MS} {cc : ByteArray} {nL : Nat} {ret : Option FieldType} {F N pc : Nat} {lv : List (Nat × Value)} {stk : List Value}
theorem mx_get (C : gC Z cc nL RX2 ret F N) (hK : mK X (zz_s Z)) (k : Nat) (hk : k < 37) {index : Nat} (hq : Cond.fieldLink RX2 index RX2 (TX2 k).2.1 (TX2 k).2.2.1 ∈ lw_all) {v : Value} (hv : (mF X σ)[k]? = some v) (d : decode cc pc = .ok (.getfield index, 3)) (hs : (TX2 k).1 = RX2) (K : gG Z nL (mI Z X σ) 0 0 (pc + 3) lv (v :: stk)) : gG Z nL (mI Z X σ) 0 0 pc lv (.ref (mX_h X) :: stk) :=
  fun H locs hI ls hl => va_get (ref := RX2) (C := RX2) (T := TX2) (N := 37) (ci := 0) C.x C.b C.w in_X2 C.o hK.1 hI.1 0 rfl rfl k hk (C.w _ hq) (fun x h => by rw [hs] at h; exact h) hv d (K H locs hI ls hl)
theorem mx_put (C : gC Z cc nL RX2 ret F N) (hK : mK X (zz_s Z)) (k : Nat) (hk : k < 37) {index : Nat} (hq : Cond.fieldLink RX2 index RX2 (TX2 k).2.1 (TX2 k).2.2.1 ∈ lw_all) (hs : (TX2 k).1 = RX2) (hfin : (TX2 k).2.2.2 = false) {v : Int} (hn : narrow (tyX2 k) (.int (i32 v)) = .int (i32 v)) (hf : fits (tyX2 k) (.int (i32 v)) = true) (d : decode cc pc = .ok (.putfield index, 3)) (hset : (mW X σ).set 0 (mX_h X, .inr (0, (mF X σ).set k (.int (i32 v)))) = mW X σ') (K : gG Z nL (mI Z X σ') 0 0 (pc + 3) lv stk) : gG Z nL (mI Z X σ) 0 0 pc lv (.int (i32 v) :: .ref (mX_h X) :: stk) :=
  fun H locs hI ls hl => va_put (ref := RX2) (C := RX2) (T := TX2) (N := 37) (ci := 0) C.x C.b C.w in_X2 tyX2 tyX2_ok nmX2 C.o hK.1 hI.1 (hK.D σ) hI.2 0 rfl rfl k hk (C.w _ hq) (fun x h => by rw [hs] at h; exact h) hfin (tyX2_ok k hk) hn hf hk d (fun H1 locs1 hP _ hS => K H1 locs1 ⟨hset ▸ hP, hS⟩ ls hl)
theorem mx_iald (C : gC Z cc nL RX2 ret F N) (hK : mK X (zz_s Z)) (q0 k : Nat) {len : Nat} (hp : (mW X σ)[q0]? = some (mX_a X k, .inl (mX_I X, len, .inl (fun j => i32 (σ k j))))) {i e : Int} (h0 : 0 ≤ i) (h1 : i < (len : Int)) (hlen : len < 2147483648) (d : decode cc pc = .ok (.iaload, 1)) (he : σ k i.toNat = e) (K : gG Z nL (mI Z X σ) 0 0 (pc + 1) lv (.int (i32 e) :: stk)) : gG Z nL (mI Z X σ) 0 0 pc lv (.int (i32 i) :: .ref (mX_a X k) :: stk) :=
  fun H locs hI ls hl => va_iald C.x C.b hK.1 hI.1 q0 0 hp rfl (i32_in h0 h1 hlen) d (by rw [i32_ix h0 h1 hlen, he]; exact K H locs hI ls hl)
theorem mx_zald (C : gC Z cc nL RX2 ret F N) (hK : mK X (zz_s Z)) (q0 k : Nat) {len : Nat} (hp : (mW X σ)[q0]? = some (mX_a X k, .inl (mX_Z X, len, .inl (fun j => i32 (σ k j))))) {i e : Int} (h0 : 0 ≤ i) (h1 : i < (len : Int)) (hlen : len < 2147483648) (d : decode cc pc = .ok (.baload, 1)) (he : σ k i.toNat = e) (K : gG Z nL (mI Z X σ) 0 0 (pc + 1) lv (.int (i32 e) :: stk)) : gG Z nL (mI Z X σ) 0 0 pc lv (.int (i32 i) :: .ref (mX_a X k) :: stk) :=
  fun H locs hI ls hl => va_zald C.x C.b hK.1 hI.1 q0 1 hp rfl (i32_in h0 h1 hlen) d (by rw [i32_ix h0 h1 hlen, he]; exact K H locs hI ls hl)
theorem mx_iast (C : gC Z cc nL RX2 ret F N) (hK : mK X (zz_s Z)) (q0 k : Nat) {len : Nat} (hp : (mW X σ)[q0]? = some (mX_a X k, .inl (mX_I X, len, .inl (fun j => i32 (σ k j))))) {i v : Int} (h0 : 0 ≤ i) (h1 : i < (len : Int)) (hlen : len < 2147483648) (d : decode cc pc = .ok (.iastore, 1)) (hset : (mW X σ).set q0 (mX_a X k, .inl (mX_I X, len, .inl (upd (fun j => i32 (σ k j)) i.toNat (i32 v)))) = mW X σ') (K : gG Z nL (mI Z X σ') 0 0 (pc + 1) lv stk) : gG Z nL (mI Z X σ) 0 0 pc lv (.int (i32 v) :: .int (i32 i) :: .ref (mX_a X k) :: stk) :=
  fun H locs hI ls hl => va_iast C.x C.b hK.1 hI.1 (hK.D σ) hI.2 q0 0 hp rfl (i32_in h0 h1 hlen) d (fun H1 locs1 hP _ hS => K H1 locs1 ⟨by rw [i32_ix h0 h1 hlen, hset] at hP; exact hP, hS⟩ ls hl)
theorem mx_zast (C : gC Z cc nL RX2 ret F N) (hK : mK X (zz_s Z)) (q0 k : Nat) {len : Nat} (hp : (mW X σ)[q0]? = some (mX_a X k, .inl (mX_Z X, len, .inl (fun j => i32 (σ k j))))) {i v : Int} (h0 : 0 ≤ i) (h1 : i < (len : Int)) (hlen : len < 2147483648) (hv : v = 0 ∨ v = 1) (d : decode cc pc = .ok (.bastore, 1)) (hset : (mW X σ).set q0 (mX_a X k, .inl (mX_Z X, len, .inl (upd (fun j => i32 (σ k j)) i.toNat (i32 v)))) = mW X σ') (K : gG Z nL (mI Z X σ') 0 0 (pc + 1) lv stk) : gG Z nL (mI Z X σ) 0 0 pc lv (.int (i32 v) :: .int (i32 i) :: .ref (mX_a X k) :: stk) :=
  fun H locs hI ls hl => va_zast C.x C.b hK.1 hI.1 (hK.D σ) hI.2 q0 1 hp rfl (i32_in h0 h1 hlen) d (fun H1 locs1 hP _ hS => K H1 locs1 ⟨by rw [i32_ix h0 h1 hlen, mz_v hv, hset] at hP; exact hP, hS⟩ ls hl)
theorem mx_callVi {y : MethodName} {b : ByteArray} {L index : Nat} {rt : Option FieldType} {rm : Room} {Q : Int → MS → Prop} (As rest : List Value) (n : Nat) (C : gC Z cc nL RX2 ret F N) (hK : mK X (zz_s Z)) (hM : Met (zz_l Z) y (ws_ y b L rt) rm (mPc X (.ref (mX_h X) :: As) σ) (mQi X Q) 0 0 (mA X)) (hq : GoodIn lw_all (wsV RX2 index RX2 y (ws_ y b L rt))) (hd : y.cls = RX2 ∧ y.cls ≠ "java/lang/invoke/MethodHandle" ∧ y.cls ≠ "java/lang/invoke/VarHandle" ∧ (parseMethodDescriptor y.desc).map (fun d => d.parameters.length) = some n) (hrm : rm.cells = 0 ∧ rm.slots = 0 ∧ rm.frames + 1 ≤ F ∧ 8 + (L + 11) + rm.locals ≤ N) (hW : (rest.map fun v => v.category).sum ≤ 8) (d : decode cc pc = .ok (.invokevirtual index, 3)) (hn : As.length = n) (hs : stk = As.reverse ++ .ref (mX_h X) :: rest) (K : ∀ r σ', Q r σ' → gG Z nL (mI Z X σ') 0 0 (pc + 3) lv (.int (i32 r) :: rest)) : gG Z nL (mI Z X σ) 0 0 pc lv stk :=
  fun H locs hI ls hl => va_calli (va_runV (As := As) (rest := rest) ⟨C.x, C.b, C.ml, C.o, C.w⟩ hM (cwV n C.w hq rfl hrm.1 hrm.2.1 hd ⟨Nat.le_trans hrm.2.2.1 C.f, Nat.le_trans hrm.2.2.2 C.nn⟩) ⟨mPc_blind, va_recv hK.1 hI.1 (ci := 0) (q0 := 0) rfl rfl, fun U hU hW => ⟨rfl, by rw [hU]; exact hI.1, hK.moved hW.alike⟩⟩ rfl hn hl.1 hs (lv_room hW) d ⟨Nat.zero_le _, Nat.zero_le _⟩) hI.2 (fun _ _ h => h) (fun _ h => h) (fun r u t H1 locs1 ht hvm hp hB _ _ hS => by
    obtain ⟨e, hq1⟩ := hp
    rw [e]
    exact K u.1 u.2 hq1 H1 locs1 ⟨ht ▸ hB.1, hS⟩ ls hl)
theorem mx_callVv {y : MethodName} {b : ByteArray} {L index : Nat} {rt : Option FieldType} {rm : Room} {Q : MS → Prop} (As rest : List Value) (n : Nat) (C : gC Z cc nL RX2 ret F N) (hK : mK X (zz_s Z)) (hM : Met (zz_l Z) y (ws_ y b L rt) rm (mPc X (.ref (mX_h X) :: As) σ) (mQv X Q) 0 0 (mA X)) (hq : GoodIn lw_all (wsV RX2 index RX2 y (ws_ y b L rt))) (hd : y.cls = RX2 ∧ y.cls ≠ "java/lang/invoke/MethodHandle" ∧ y.cls ≠ "java/lang/invoke/VarHandle" ∧ (parseMethodDescriptor y.desc).map (fun d => d.parameters.length) = some n) (hrm : rm.cells = 0 ∧ rm.slots = 0 ∧ rm.frames + 1 ≤ F ∧ 8 + (L + 11) + rm.locals ≤ N) (hW : (rest.map fun v => v.category).sum ≤ 8) (d : decode cc pc = .ok (.invokevirtual index, 3)) (hn : As.length = n) (hs : stk = As.reverse ++ .ref (mX_h X) :: rest) (K : ∀ σ', Q σ' → gG Z nL (mI Z X σ') 0 0 (pc + 3) lv rest) : gG Z nL (mI Z X σ) 0 0 pc lv stk :=
  fun H locs hI ls hl => va_callv (va_runV (As := As) (rest := rest) ⟨C.x, C.b, C.ml, C.o, C.w⟩ hM (cwV n C.w hq rfl hrm.1 hrm.2.1 hd ⟨Nat.le_trans hrm.2.2.1 C.f, Nat.le_trans hrm.2.2.2 C.nn⟩) ⟨mPc_blind, va_recv hK.1 hI.1 (ci := 0) (q0 := 0) rfl rfl, fun U hU hW => ⟨rfl, by rw [hU]; exact hI.1, hK.moved hW.alike⟩⟩ rfl hn hl.1 hs (lv_room hW) d ⟨Nat.zero_le _, Nat.zero_le _⟩) hI.2 (fun _ _ h => h) (fun _ h => h) (fun u t H1 locs1 ht hvm hp hB _ _ hS => K u hp H1 locs1 ⟨ht ▸ hB.1, hS⟩ ls hl)
theorem mx_callSi {y : MethodName} {b : ByteArray} {L index : Nat} {rt : Option FieldType} {rm : Room} {Q : Int → MS → Prop} (As rest : List Value) (n : Nat) (C : gC Z cc nL RX2 ret F N) (hK : mK X (zz_s Z)) (hM : Met (zz_l Z) y (ws_ y b L rt) rm (mPc X As σ) (mQi X Q) 0 0 (mA X)) (hq : GoodIn lw_all (va_wsS RX2 index y (ws_ y b L rt))) (hd : y.cls ≠ "java/lang/invoke/MethodHandle" ∧ y.cls ≠ "java/lang/invoke/VarHandle" ∧ (parseMethodDescriptor y.desc).map (fun d => d.parameters.length) = some n) (hrm : rm.cells = 0 ∧ rm.slots = 0 ∧ rm.frames + 1 ≤ F ∧ 8 + (L + 11) + rm.locals ≤ N) (hW : (rest.map fun v => v.category).sum ≤ 8) (d : decode cc pc = .ok (.invokestatic index, 3)) (hn : As.length = n) (hs : stk = As.reverse ++ rest) (K : ∀ r σ', Q r σ' → gG Z nL (mI Z X σ') 0 0 (pc + 3) lv (.int (i32 r) :: rest)) : gG Z nL (mI Z X σ) 0 0 pc lv stk :=
  fun H locs hI ls hl => va_calli (va_runS (As := As) (rest := rest) ⟨C.x, C.b, C.ml, C.o, C.w⟩ hM (va_cwS n C.w hq rfl hrm.1 hrm.2.1 hd ⟨Nat.le_trans hrm.2.2.1 C.f, Nat.le_trans hrm.2.2.2 C.nn⟩) ⟨mPc_blind, fun U hU hW => ⟨rfl, by rw [hU]; exact hI.1, hK.moved hW.alike⟩⟩ rfl hn hl.1 hs (lv_room hW) d ⟨Nat.zero_le _, Nat.zero_le _⟩) hI.2 (fun _ _ h => h) (fun _ h => h) (fun r u t H1 locs1 ht hvm hp hB _ _ hS => by
    obtain ⟨e, hq1⟩ := hp
    rw [e]
    exact K u.1 u.2 hq1 H1 locs1 ⟨ht ▸ hB.1, hS⟩ ls hl)
theorem mx_iret {Q : Int → MS → Prop} (C : gC Z cc nL RX2 (some .int) F N) (hK : mK X (zz_s Z)) (hQ : zz_q Z = MQ (zz_b Z) (mQi X Q) (zz_a Z) (zz_s Z) 0 0 (mA X)) {r : Int} (hq : Q r σ) (d : decode cc pc = .ok (.ireturn, 1)) : gG Z nL (mI Z X σ) 0 0 pc lv [.int (i32 r)] := fun H locs hI ls hl => by
  rw [hQ]
  exact W.iret C.x C.b C.r (fun t ht hW => ⟨⟨i32 r, (r, σ), rfl, ⟨rfl, hq⟩, by rw [ht]; exact hI.1, hK.moved hW.alike⟩, hI.2.F ht⟩) hI.2.2.2 d C.lk
theorem mx_zret {Q : Int → MS → Prop} (C : gC Z cc nL RX2 (some .boolean) F N) (hK : mK X (zz_s Z)) (hQ : zz_q Z = MQ (zz_b Z) (mQi X Q) (zz_a Z) (zz_s Z) 0 0 (mA X)) {r : Int} (hr : r = 0 ∨ r = 1) (hq : Q r σ) (d : decode cc pc = .ok (.ireturn, 1)) : gG Z nL (mI Z X σ) 0 0 pc lv [.int (i32 r)] := fun H locs hI ls hl => by
  rw [hQ]
  exact W.zret C.x C.b C.r (mz_n hr) (fun t ht hW => ⟨⟨i32 r, (r, σ), rfl, ⟨rfl, hq⟩, by rw [ht]; exact hI.1, hK.moved hW.alike⟩, hI.2.F ht⟩) hI.2.2.2 d C.lk
theorem mx_vret {Q : MS → Prop} (C : gC Z cc nL RX2 none F N) (hK : mK X (zz_s Z)) (hQ : zz_q Z = MQ (zz_b Z) (mQv X Q) (zz_a Z) (zz_s Z) 0 0 (mA X)) (hq : Q σ) (d : decode cc pc = .ok (.return_, 1)) : gG Z nL (mI Z X σ) 0 0 pc lv [] := fun H locs hI ls hl => by
  rw [hQ]
  exact W.vret C.x C.b C.r (fun t ht hW => ⟨⟨σ, rfl, hq, by rw [ht]; exact hI.1, hK.moved hW.alike⟩, hI.2.F ht⟩) hI.2.2.2 d C.lk
theorem mx_met {l : Launch} {y : MethodName} {rm : Room} {As : List Value} {lv0 : List (Nat × Value)} {Qc : Array Value → State → Outcome → State → Prop} (hy : plainName y.cls = true) (hcl : y.cls = RX2) (hc : rm.cells = 0) (hs : rm.slots = 0) (hlen : (lg_sl As).length ≤ nL) (hlv : lv_args 0 As = lv0) (body : ∀ Z : zz, gC Z cc nL RX2 ret rm.frames rm.locals → mK X (zz_s Z) → zz_q Z = MQ (zz_b Z) Qc (zz_a Z) (zz_s Z) 0 0 (mA X) → gG Z nL (mI Z X σ) 0 0 0 lv0 []) : Met l y (ws_ y cc nL ret) rm (mPc X As σ) Qc 0 0 (mA X) := by
  refine Met.ofW (cc := cc) (maxL := nL) (ret := ret) hy rfl ?_
  intro p e s m args below meth c s₁ B hml hv
  obtain ⟨rfl, hP, hK⟩ := hv
  have hts := atoms_spec (ws := ws_ y cc nL ret) B.pre
  have hts : ∀ w ∈ lw_all, w.before _ s = true := fun w h => hts w (List.mem_cons_of_mem _ h)
  have hown : s.vm.findClass RX2 = some m.cls := by
    have h := findClass_of_methodNamed B.named
    rw [hcl] at h
    exact h
  have hl := lv_entry As (n := nL) hlen
  rw [hlv] at hl
  rw [lg_entry_eq]
  exact body (p, l, e, (headSpec (ws_ y cc nL ret) rm).room, s, m, As.toArray, below, meth, c, MQ below Qc As.toArray s 0 0 (mA X)) ⟨B.exec, B.bytes, hml, hown, hts, B.returns, B.notSynchronized, Nat.le_refl _, Nat.le_refl _⟩ hK rfl s.heap [] ⟨hP, va_S.rf⟩ _ hl
end MX
