/-! Strings, byte arrays, statics, copies -/
def prI (μ : CM) (a : Nat) (f : Nat → Int) : CM := (kI μ, kR μ, tg μ, ln μ, (fun b => if b = a then f else oI μ b), oR μ)
def prR (μ : CM) (a : Nat) (f : Nat → Option Nat) : CM := (kI μ, kR μ, tg μ, ln μ, oI μ, (fun b => if b = a then f else oR μ b))
def pkrI (μ : CM) (k : Nat) (f : Nat → Int) : CM := ((fun b => if b = k then f else kI μ b), kR μ, tg μ, ln μ, oI μ, oR μ)
def pkrR (μ : CM) (k : Nat) (f : Nat → Option Nat) : CM := (kI μ, (fun b => if b = k then f else kR μ b), tg μ, ln μ, oI μ, oR μ)
theorem cpy_i32 (f g : Nat → Int) (sp dp n : Nat) : va_cpy (fun j => i32 (f j)) (fun j => i32 (g j)) sp dp n = fun j => i32 (va_cpy f g sp dp n j) := by
  funext j
  unfold va_cpy
  split <;> rfl
theorem i32_nn {x : Int} (h : 0 ≤ x) (h2 : x < 2147483648) : ¬ i32 x < 0 := by
  rw [i32_nI h]
  exact nI_pos (by omega)
theorem i32_cl {x : Int} (h : 0 ≤ x) (h2 : x < 2147483648) : (i32 x).toNatClampNeg = x.toNat := by
  rw [i32_nI h]
  exact nI_clamp (by omega)
theorem prI_a {μ : CM} {a : Nat} {f : Nat → Int} : oI (prI μ a f) a = f := by simp [prI, oI]
theorem prI_o {μ : CM} {a b : Nat} {f : Nat → Int} (h : b ≠ a) : oI (prI μ a f) b = oI μ b := by simp [prI, oI, h]
theorem prR_a {μ : CM} {a : Nat} {f : Nat → Option Nat} : oR (prR μ a f) a = f := by simp [prR, oR]
theorem prR_o {μ : CM} {a b : Nat} {f : Nat → Option Nat} (h : b ≠ a) : oR (prR μ a f) b = oR μ b := by simp [prR, oR, h]
theorem cu_rB {X : cX} {μ : CM} {a : Nat} {f : Nat → Int} (h : tg μ a = 21) : cUp X μ a (.inl (cX_c X 1, ln μ a, .inl (fun j => i32 (oI μ a j)))) (.inl (cX_c X 1, ln μ a, .inl (fun j => i32 (f j)))) (prI μ a f) :=
  Or.inr ⟨cdA_1 h, rfl, rfl, rfl, fun _ hb => prI_o hb, fun _ _ => rfl, by
    have := cdA_1 (X := X) (μ := prI μ a f) (a := a) h
    rw [prI_a] at this
    exact this⟩
theorem cu_rT {X : cX} {μ : CM} {a : Nat} {f : Nat → Option Nat} (h : tg μ a = 22) : cUp X μ a (.inl (cX_c X 2, ln μ a, .inr (.inr (.inr (.inr (fun j => oR μ a j)))))) (.inl (cX_c X 2, ln μ a, .inr (.inr (.inr (.inr f))))) (prR μ a f) :=
  Or.inr ⟨cdA_2 h, rfl, rfl, rfl, fun _ _ => rfl, fun _ hb => prR_o hb, by
    have := cdA_2 (X := X) (μ := prR μ a f) (a := a) h
    rw [prR_a] at this
    exact this⟩
section SX
variable {Z : zz} {X : cX} {μ0 μ μ' : CM} {cc : ByteArray} {nL : Nat} {own : String} {ret : Option FieldType} {F N kk nn pc : Nat} {L : List (Nat × AV)} {S : List AV} {a a0 len : Nat}
theorem cx_kon {H : Heap} {locs : List Loc} (hK : cCt Z X μ0) (hI : cI Z X μ0 μ H locs) : cKon μ (cA X μ0 (zz_s Z).heap.size) (zz_s Z) (zz_s Z).heap := hK.2.1.to hI.2.2.2.1
theorem cx_getStr (C : gC Z cc nL own ret F N) (hK : cCt Z X μ0) (k : Nat) (hk : k < 4) {index : Nat} (hq : Cond.fieldLink own index "java/lang/String" (TJ0 k).2.1 (TJ0 k).2.2.1 ∈ lw_all) (ht : tg μ a = 13 ∨ tg μ a = 14) {v : AV} (hv : (coF_12 μ a)[k]? = some (toV v)) (d : decode cc pc = .ok (.getfield index, 3)) (K : hG Z nL (cI Z X μ0 μ) kk nn (pc + 3) L (v :: S)) : hG Z nL (cI Z X μ0 μ) kk nn pc L (aR (some a) :: S) := by
  rcases ht with ht | ht
  · rcases (show k = 0 ∨ k = 1 ∨ k = 2 ∨ k = 3 by omega) with rfl | rfl | rfl | rfl
    · exact cx_get (v := v) C hK 12 0 rfl in_J0 (by decide) hq rfl (cdE_12 ht) hv d K
    · exact cx_get (v := v) C hK 12 1 rfl in_J0 (by decide) hq rfl (cdE_12 ht) hv d K
    · exact cx_get (v := v) C hK 12 2 rfl in_J0 (by decide) hq rfl (cdE_12 ht) hv d K
    · exact cx_get (v := v) C hK 12 3 rfl in_J0 (by decide) hq rfl (cdE_12 ht) hv d K
  · intro H locs hI ls hl
    obtain ⟨-, k0, k1, k2, k3⟩ := (cx_kon hK hI).1 a ht
    have K1 := K H locs hI ls hl
    rcases (show k = 0 ∨ k = 1 ∨ k = 2 ∨ k = 3 by omega) with rfl | rfl | rfl | rfl
    · exact vk_getf C.x C.b (by have e : va_rf (oR μ a 0) = toV v := Option.some.inj hv; rw [← e]; exact k0) hI.2.1 C.o (C.w _ hq) (fun x h => h) d K1
    · exact vk_getf C.x C.b (by have e : Value.int (i32 (oI μ a 1)) = toV v := Option.some.inj hv; rw [← e]; exact k1) hI.2.1 C.o (C.w _ hq) (fun x h => h) d K1
    · exact vk_getf C.x C.b (by have e : Value.int (i32 (oI μ a 2)) = toV v := Option.some.inj hv; rw [← e]; exact k2) hI.2.1 C.o (C.w _ hq) (fun x h => h) d K1
    · exact vk_getf C.x C.b (by have e : Value.int (i32 (oI μ a 3)) = toV v := Option.some.inj hv; rw [← e]; exact k3) hI.2.1 C.o (C.w _ hq) (fun x h => h) d K1
theorem cx_baldK (C : gC Z cc nL own ret F N) (hK : cCt Z X μ0) (ht : tg μ a = 21 ∨ tg μ a = 26) {i : Int} (h0 : 0 ≤ i) (h1 : i < (ln μ a : Int)) (hlen : ln μ a < 2147483648) (d : decode cc pc = .ok (.baload, 1)) (K : hG Z nL (cI Z X μ0 μ) kk nn (pc + 1) L (aI (oI μ a i.toNat) :: S)) : hG Z nL (cI Z X μ0 μ) kk nn pc L (aI i :: aR (some a) :: S) := by
  rcases ht with ht | ht
  · exact cx_bald (f := oI μ a) C hK (Or.inr (cdA_1 ht)) h0 h1 hlen d K
  · intro H locs hI ls hl
    exact va_tb C.x C.b ((cx_kon hK hI).2 a ht) hI.2.1 (i32_in h0 h1 hlen) (v := .int (i32 (oI μ a i.toNat))) (by rw [i32_ix h0 h1 hlen]) d (K H locs hI ls hl)
theorem cx_alenK (C : gC Z cc nL own ret F N) (hK : cCt Z X μ0) (ht : tg μ a = 21 ∨ tg μ a = 26) (d : decode cc pc = .ok (.arraylength, 1)) (K : hG Z nL (cI Z X μ0 μ) kk nn (pc + 1) L (aI (ln μ a : Int) :: S)) : hG Z nL (cI Z X μ0 μ) kk nn pc L (aR (some a) :: S) := by
  rcases ht with ht | ht
  · exact cx_alen C hK 1 rfl (Or.inr (cdA_1 ht)) d K
  · intro H locs hI ls hl
    exact va_tlen C.x C.b ((cx_kon hK hI).2 a ht) hI.2.1 (v := i32 (ln μ a : Int)) rfl d (K H locs hI ls hl)
theorem cx_compact (C : gC Z cc nL own ret F N) (hK : cCt Z X μ0) {index : Nat} (hq : Cond.fieldLink own index "java/lang/String" "COMPACT_STRINGS" "Z" ∈ lw_all) (d : decode cc pc = .ok (.getstatic index, 3)) (K : hG Z nL (cI Z X μ0 μ) kk nn (pc + 3) L (aI 1 :: S)) : hG Z nL (cI Z X μ0 μ) kk nn pc L S := fun H locs hI ls hl =>
  va_gets C.x C.b hK.2.2.1 hI.2.1 C.o (C.w _ hq) (fun x h => h) d (K H locs hI ls hl)
theorem cx_statq {C0 n0 d0 : String} (C : gC Z cc nL own ret F N) (hz : va_Zq C0 n0 d0 (cA X μ0 (zz_s Z).heap.size) (zz_s Z) (zz_s Z).heap) {index : Nat} (hq : Cond.fieldLink own index C0 n0 d0 ∈ lw_all) (d : decode cc pc = .ok (.getstatic index, 3)) (K : ∀ r, hG Z nL (cI Z X μ0 μ) kk nn (pc + 3) L (aR r :: S)) : hG Z nL (cI Z X μ0 μ) kk nn pc L S := fun H locs hI ls hl => by
  rcases hz with hz | ⟨t, hz⟩
  · exact va_gets C.x C.b hz hI.2.1 C.o (C.w _ hq) (fun x h => h) d (K none H locs hI ls hl)
  · exact va_gets C.x C.b hz hI.2.1 C.o (C.w _ hq) (fun x h => h) d (K (some t) H locs hI ls hl)
theorem cx_instStr (C : gC Z cc nL own ret F N) (hK : cCt Z X μ0) {index : Nat} (hq : Cond.classLink own index "java/lang/String" ∈ lw_all) (ht : tg μ a = 13 ∨ tg μ a = 14) (d : decode cc pc = .ok (.instanceof index, 3)) (K : hG Z nL (cI Z X μ0 μ) kk nn (pc + 3) L (aI 1 :: S)) : hG Z nL (cI Z X μ0 μ) kk nn pc L (aR (some a) :: S) := fun H locs hI ls hl =>
  va_instE C.x C.b C.o (C.w _ hq) (by
    rcases ht with ht | ht
    · exact cv_dyn hK hI (ci := 12) rfl (Or.inr (cdE_12 ht))
    · exact cv_kon hK hI ht) d (K H locs hI ls hl)
theorem cx_castStr (C : gC Z cc nL own ret F N) (hK : cCt Z X μ0) {index : Nat} (hq : Cond.classLink own index "java/lang/String" ∈ lw_all) (ht : tg μ a = 13 ∨ tg μ a = 14) (d : decode cc pc = .ok (.checkcast index, 3)) (K : hG Z nL (cI Z X μ0 μ) kk nn (pc + 3) L (aR (some a) :: S)) : hG Z nL (cI Z X μ0 μ) kk nn pc L (aR (some a) :: S) := fun H locs hI ls hl =>
  va_castE C.x C.b C.o (C.w _ hq) (by
    rcases ht with ht | ht
    · exact cv_dyn hK hI (ci := 12) rfl (Or.inr (cdE_12 ht))
    · exact cv_kon hK hI ht) d (K H locs hI ls hl)
theorem cv_str {H : Heap} {locs : List Loc} (hK : cCt Z X μ0) (hI : cI Z X μ0 μ H locs) (ht : tg μ a = 13 ∨ tg μ a = 14) : ∃ cell : Cell, H[a]? = some cell ∧ cell.vm.isStatics = false ∧ (zz_s Z).vm.findClass "java/lang/String" = some cell.cls := by
  rcases ht with ht | ht
  · exact cv_dyn hK hI (ci := 12) rfl (Or.inr (cdE_12 ht))
  · exact cv_kon hK hI ht
theorem cx_newB (C : gC Z cc nL own ret F N) (hK : cCt Z X μ0) (hq : Cond.arrayClass .byte ∈ lw_all) {m : Int} (h0 : 0 ≤ m) (hm : m ≤ 100000000) (h1 : kk + 1 ≤ (zz_R Z).cells) (h2 : nn + m.toNat ≤ (zz_R Z).slots) (d : decode cc pc = .ok (.newarray .byte, 2)) (K : ∀ a, tg μ a = 0 → hG Z nL (cI Z X μ0 (alc μ a 21 m.toNat)) (kk + 1) (nn + m.toNat) (pc + 2) L (aR (some a) :: S)) : hG Z nL (cI Z X μ0 μ) kk nn pc L (aI m :: S) := fun H locs hI ls hl => by
  refine va_newaK (atype := .byte) C.x C.b (C.w _ hq) rfl d rfl (i32_nn h0 (by omega)) (i32_cl h0 (by omega)) (by show m.toNat * 1 ≤ _; omega) h1 h2 rfl fun H1 cA e1 z1 o1 hA hf => ?_
  have hc : cA = cX_c X 1 := by
    have h3 := (hK.1.1.2 1 _ rfl).2
    exact Option.some.inj (hf.symm.trans h3)
  subst hc
  exact K H.size (cw_fresh hK hI) H1 locs (cI_new hK hI z1 o1 (Or.inr (by decide)) (cdA_1 alc_t) (by
    show H1[H.size]? = some (vp_cell _ _)
    rw [e1, alc_n, alc_I]
    rfl)) ls hl
theorem cx_copyB (C : gC Z cc nL own ret F N) (hK : cCt Z X μ0) {index : Nat} (q1 : Cond.methodLink own index arraycopyName ∈ lw_all) (q2 : Cond.native arraycopyName ∈ lw_all) (q3 : Cond.static arraycopyName ∈ lw_all) (q4 : Cond.initialized "java/lang/System" ∈ lw_all) (ht0 : tg μ a0 = 21 ∨ tg μ a0 = 26) (ht : tg μ a = 21) {sp dp m : Int} (hb : (0 ≤ sp ∧ 0 ≤ dp ∧ 0 ≤ m) ∧ (sp + m ≤ (ln μ a0 : Int) ∧ dp + m ≤ (ln μ a : Int)) ∧ ln μ a0 < 2147483648 ∧ ln μ a < 2147483648) (hfit : ∀ i : Nat, (i : Int) < m → -128 ≤ oI μ a0 (sp.toNat + i) ∧ oI μ a0 (sp.toNat + i) < 128) (hF : 1 ≤ F) (hN : ((S.map toV).map fun v => v.category).sum + (nativeFrameWords "java/lang/System" "arraycopy" 5 + 11) ≤ N) (d : decode cc pc = .ok (.invokestatic index, 3)) (K : hG Z nL (cI Z X μ0 (prI μ a (va_cpy (oI μ a0) (oI μ a) sp.toNat dp.toNat m.toNat))) kk nn (pc + 3) L S) : hG Z nL (cI Z X μ0 μ) kk nn pc L (aI m :: aI dp :: aR (some a) :: aI sp :: aR (some a0) :: S) := fun H locs hI ls hl => by
  obtain ⟨⟨b1, b2, b3⟩, ⟨b4, b5⟩, b6, b7⟩ := hb
  have c1 := i32_cl b1 (by omega)
  have c2 := i32_cl b2 (by omega)
  have c3 := i32_cl b3 (by omega)
  obtain ⟨q, hq, up⟩ := (cu_rB (f := va_cpy (oI μ a0) (oI μ a) sp.toNat dp.toNat m.toNat) ht).up hI
  have hfit2 : ∀ i : Nat, i < (i32 m).toNatClampNeg → fits .byte (.int (i32 (oI μ a0 ((i32 sp).toNatClampNeg + i)))) = true := fun i hi => by
    rw [c3] at hi
    rw [c1]
    exact mz_fb (hfit i (by omega))
  rcases ht0 with ht0 | ht0
  · obtain ⟨j, hj⟩ := cEn.at hI.1 (Or.inr (cdA_1 ht0))
    exact va_copyi (ty := .byte) C.x C.b (C.ml.trans hl.1.symm) C.o (C.w _ q1) (C.w _ q2) (C.w _ q3) (C.w _ q4) hK.1.1 (hI.1.P H.size) (cI_D hK hI) hI.2.1 j q 1 1 hj hq rfl rfl rfl (i32_nn b1 (by omega)) (i32_nn b2 (by omega)) (i32_nn b3 (by omega)) (by rw [c1, c3]; omega) (by rw [c2, c3]; omega) hfit2 (Nat.le_trans hF C.f) (Nat.le_trans hN C.nn) d (fun H1 locs1 hP _ hS => K H1 locs1 (up H1 locs1 (by rw [cpy_i32, c1, c2, c3] at hP; exact hP) hS) ls hl)
  · exact vk_copyt C.x C.b (C.ml.trans hl.1.symm) C.o (C.w _ q1) (C.w _ q2) (C.w _ q3) (C.w _ q4) hK.1.1 (hI.1.P H.size) (cI_D hK hI) hI.2.1 (f := fun j => i32 (oI μ a0 j)) ((cx_kon hK hI).2 a0 ht0) q 1 hq rfl (i32_nn b1 (by omega)) (i32_nn b2 (by omega)) (i32_nn b3 (by omega)) (by rw [c1, c3]; omega) (by rw [c2, c3]; omega) hfit2 (Nat.le_trans hF C.f) (Nat.le_trans hN C.nn) d (fun H1 locs1 hP _ hS => K H1 locs1 (up H1 locs1 (by rw [cpy_i32, c1, c2, c3] at hP; exact hP) hS) ls hl)
theorem cx_cloneB (C : gC Z cc nL own ret F N) (hK : cCt Z X μ0) {index : Nat} (q1 : Cond.methodLink own index ⟨"[B", "clone", "()Ljava/lang/Object;"⟩ ∈ lw_all) (q2 : Cond.sameMethod "[B" "java/lang/Object" "clone" "()Ljava/lang/Object;" ∈ lw_all) (q3 : Cond.native ⟨"java/lang/Object", "clone", "()Ljava/lang/Object;"⟩ ∈ lw_all) (q4 : Cond.instanceMethod ⟨"java/lang/Object", "clone", "()Ljava/lang/Object;"⟩ ∈ lw_all) (q5 : Cond.selects "[B" ⟨"[B", "clone", "()Ljava/lang/Object;"⟩ ⟨"java/lang/Object", "clone", "()Ljava/lang/Object;"⟩ ∈ lw_all) (q6 : Cond.castable "[B" "java/lang/Cloneable" ∈ cNw) (ht : tg μ a = 21) (hfit : ∀ i : Nat, i < ln μ a → -128 ≤ oI μ a i ∧ oI μ a i < 128) (hF : 1 ≤ F) (hN : ((S.map toV).map fun v => v.category).sum + 14 ≤ N) (h1 : kk + 1 ≤ (zz_R Z).cells) (h2 : nn + ln μ a ≤ (zz_R Z).slots) (d : decode cc pc = .ok (.invokevirtual index, 3)) (K : ∀ a', tg μ a' = 0 → hG Z nL (cI Z X μ0 (prI (alc μ a' 21 (ln μ a)) a' (oI μ a))) (kk + 1) (nn + ln μ a) (pc + 3) L (aR (some a') :: S)) : hG Z nL (cI Z X μ0 μ) kk nn pc L (aR (some a) :: S) := fun H locs hI ls hl => by
  have hcell : H[a]? = some (arrV (cX_c X 1) (ln μ a) (fun j => .int (i32 (oI μ a j)))) := hI.1.2.1 a _ (cdA_1 ht)
  have hnm : (zz_s Z).vm.findClass "[B" = some (cX_c X 1) := (hK.1.1.2 1 _ rfl).2
  obtain ⟨c0, t0', f1, f2, f3⟩ := Cond.castable_spec (va_Nw.use (A := zz_a Z) rfl (hK.1.2.2.1 _ q6))
  cases hnm.symm.trans f1
  have K1 := K H.size (cw_fresh hK hI)
  intro T hT XX
  have hcellT : T.heap[a]? = some (arrV (cX_c X 1) (ln μ a) (fun j => .int (i32 (oI μ a j)))) := by rw [hT]; exact hcell
  obtain ⟨-, kA, hkA, comp, hkind⟩ := State.isArrayOf_alike XX.warmed.alike ((hK.1.1.2 1 _ rfl).1 0 (fun _ => .null))
  obtain ⟨-, kS, hkS, compS, hkindS⟩ := (hK.1.1.2 1 _ rfl).1 0 (fun _ => .null)
  have hsz : (arrV (cX_c X 1) (ln μ a) (fun j => .int (i32 (oI μ a j)))).slots.size = ln μ a := arrV_size _ _ _
  obtain ⟨vm', X', st⟩ := XX.cloneArray C.x C.o (C.w _ q1) (C.w _ q2) (C.w _ q3) (C.w _ q4) (C.w _ q5) (a := a) (cell := arrV (cX_c X 1) (ln μ a) (fun j => .int (i32 (oI μ a j)))) hcellT (fun k h => by cases h) (fun h => by cases h) hnm f2 f3
    (fun i v hv => by
      have hk' : T.vm.classes[cX_c X 1]? = some kA := hkA
      have hlt : i < ln μ a := by
        have := (Array.getElem?_eq_some_iff.mp hv).1
        rw [hsz] at this
        exact this
      rw [arrV_read _ _ hlt] at hv
      have e := Option.some.inj hv
      have hf : fits .byte v = true := by
        rw [← e]
        exact mz_fb (hfit i hlt)
      simpa [State.fitsSlot, State.slotType?, hk', hkind, arrV] using hf)
    (g := F0 (zz_m Z) pc ls (.ref a :: S.map toV)) rfl (by rw [C.ml]; exact hl.1) rfl (by rw [C.b]; exact d) (Nat.le_trans hF C.f) (by
      have := Nat.le_trans hN C.nn
      show 2 * 0 + _ + 14 ≤ _
      omega) h1 (by rw [hsz]; exact h2) (hloader := Vm.clonesLoader_of_array hkS hkindS)
  rw [hsz] at X'
  have hcellE : ({ cls := (arrV (cX_c X 1) (ln μ a) (fun j => .int (i32 (oI μ a j)))).cls, slots := (arrV (cX_c X 1) (ln μ a) (fun j => .int (i32 (oI μ a j)))).slots } : Cell) = arrV (cX_c X 1) (ln μ a) (fun j => .int (i32 (oI μ a j))) := rfl
  rw [hcellE] at X'
  generalize hH1 : H.push (arrV (cX_c X 1) (ln μ a) (fun j => .int (i32 (oI μ a j)))) = H1
  have z1 : H1.size = H.size + 1 := by rw [← hH1, Array.size_push]
  have e1 : H1[H.size]? = some (arrV (cX_c X 1) (ln μ a) (fun j => .int (i32 (oI μ a j)))) := by rw [← hH1, Array.getElem?_push_size]
  have o1 : ∀ q : Nat, q < H.size → H1[q]? = H[q]? := fun q hq => by rw [← hH1, Array.getElem?_push, if_neg (Nat.ne_of_lt hq)]
  have hfr := cw_fresh hK hI
  have hI1 : cI Z X μ0 (prI (alc μ H.size 21 (ln μ a)) H.size (oI μ a)) H1 locs := by
    refine ⟨⟨fun k q hk => (hI.1.1 k q hk).kept (o1 _ (hI.1.1 k q hk).lt), fun q f hf => ?_, fun q hq hw => ?_⟩, ⟨Nat.le_trans hI.2.1.1 (by omega), fun q h1 h2 => (o1 q (Nat.lt_of_lt_of_le h1 hI.2.1.1)).trans (hI.2.1.2.1 q h1 h2), hI.2.1.2.2⟩, fun q hq => ?_, fun q hq => ?_, fun q hq => ?_⟩
    · by_cases hqa : q = H.size
      · subst hqa
        have := cdA_1 (X := X) (μ := prI (alc μ H.size 21 (ln μ a)) H.size (oI μ a)) (a := H.size) (alc_t (m := ln μ a))
        rw [this] at hf
        cases hf
        show H1[H.size]? = some (vp_cell _ _)
        rw [e1, prI_a, show ln (prI (alc μ H.size 21 (ln μ a)) H.size (oI μ a)) H.size = ln μ a from alc_n (t := 21)]
        rfl
      · obtain ⟨g1, g2, g3, g4⟩ := alc_o (μ := μ) (t := 21) (m := ln μ a) hqa
        rw [cdE_congr (μ := μ) (μ' := prI (alc μ H.size 21 (ln μ a)) H.size (oI μ a)) g1 g2 ((prI_o hqa).trans g3) g4] at hf
        have := hI.1.2.1 q f hf
        exact this.kept (o1 q this.lt)
    · by_cases hqa : q = H.size
      · have h1 : q ∈ csL X := hq
        obtain ⟨k, hk⟩ := List.mem_iff_getElem?.mp h1
        rw [← csW_L X μ, List.getElem?_map] at hk
        cases hc : (csW X μ)[k]? with
        | none => rw [hc] at hk; cases hk
        | some x =>
          rw [hc] at hk
          have h2 := (hI.1.1 k x hc).lt
          have h3 : x.1 = q := Option.some.inj hk
          omega
      · have h1 := (alc_o (μ := μ) (t := 21) (m := ln μ a) hqa).1
        exact hI.1.2.2 q hq (by unfold cwn at hw ⊢; rw [show tg (prI (alc μ H.size 21 (ln μ a)) H.size (oI μ a)) q = tg μ q from h1] at hw; exact hw)
    · by_cases hqa : q = H.size
      · exact Or.inr (by rw [hqa]; exact hI.2.1.1)
      · have h1 := (alc_o (μ := μ) (t := 21) (m := ln μ a) hqa).1
        exact hI.2.2.1 q (by unfold cwn at hq ⊢; rw [show tg (prI (alc μ H.size 21 (ln μ a)) H.size (oI μ a)) q = tg μ q from h1] at hq; exact hq)
    · by_cases hqa : q = H.size
      · subst hqa
        rw [show tg (prI (alc μ H.size 21 (ln μ a)) H.size (oI μ a)) H.size = 21 from alc_t (m := ln μ a)] at hq
        omega
      · obtain ⟨g1, g2, g3, g4⟩ := alc_o (μ := μ) (t := 21) (m := ln μ a) hqa
        rw [show tg (prI (alc μ H.size 21 (ln μ a)) H.size (oI μ a)) q = tg μ q from g1] at hq
        obtain ⟨f1, f2, f3, f4⟩ := hI.2.2.2.1 q hq
        exact ⟨f1.trans g1.symm, f2.trans g2.symm, f3.trans ((prI_o hqa).trans g3).symm, f4.trans g4.symm⟩
    · by_cases hqa : q = H.size
      · subst hqa
        left
        unfold cwn
        rw [show tg (prI (alc μ H.size 21 (ln μ a)) H.size (oI μ a)) H.size = 21 from alc_t (m := ln μ a)]
        decide
      · have g1 := (alc_o (μ := μ) (t := 21) (m := ln μ a) hqa).1
        have h1 := hI.2.2.2.2 q (by rw [← g1]; exact hq)
        unfold cwn at h1 ⊢
        rw [show tg (prI (alc μ H.size 21 (ln μ a)) H.size (oI μ a)) q = tg μ q from g1]
        exact h1
  obtain ⟨t, b1, b2⟩ := K1 H1 locs hI1 ls hl ((T.setVm vm').pushCell (arrV (cX_c X 1) (ln μ a) (fun j => .int (i32 (oI μ a j))))) (by rw [← hH1, ← hT]; rfl) X'
  refine ⟨t, st t ?_, b2⟩
  rw [hcellE, hT]
  exact b1
theorem cx_castB (C : gC Z cc nL own ret F N) (hK : cCt Z X μ0) {index : Nat} (hq : Cond.classLink own index "[B" ∈ lw_all) (ht : tg μ a = 21) (d : decode cc pc = .ok (.checkcast index, 3)) (K : hG Z nL (cI Z X μ0 μ) kk nn (pc + 3) L (aR (some a) :: S)) : hG Z nL (cI Z X μ0 μ) kk nn pc L (aR (some a) :: S) := fun H locs hI ls hl => by
  obtain ⟨q, hqq⟩ := cEn.at hI.1 (Or.inr (cdA_1 ht))
  exact va_castA C.x C.b C.o (C.w _ hq) (hI.1.P H.size) q hqq ((hK.1.1.2 1 _ rfl).2) d (K H locs hI ls hl)
end SX
