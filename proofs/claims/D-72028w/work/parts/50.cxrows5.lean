/-! calls of recursive methods; narrow kinds of results -/
theorem mz_c {v : Int} (h : 0 ≤ v ∧ v < 65536) : narrow .char (.int (i32 v)) = .int (i32 v) := by
  rw [i32_nI h.1]
  exact (pk_charN (by omega)).1
theorem mz_b {v : Int} (h : -128 ≤ v ∧ v < 128) : narrow .byte (.int (i32 v)) = .int (i32 v) := by
  have e : (i32 v).toInt8.toInt32 = i32 v := by
    rw [← Int32.toInt_inj, Int8.toInt_toInt32]
    have : (i32 v).toInt8 = Int8.ofInt v := by
      rw [show (i32 v).toInt8 = Int8.ofInt (i32 v).toInt from (Int8.ofInt_int32ToInt _).symm, i32_to (by omega)]
    rw [this, Int8.toInt_ofInt_of_le (by omega) (by omega), i32_to (by omega)]
  have := pk_nb (i32 v)
  rw [e] at this
  exact this
theorem mz_fb {v : Int} (h : -128 ≤ v ∧ v < 128) : fits .byte (.int (i32 v)) = true := by
  have e : (i32 v).toInt8.toInt32 = i32 v := by
    rw [← Int32.toInt_inj, Int8.toInt_toInt32]
    have : (i32 v).toInt8 = Int8.ofInt v := by
      rw [show (i32 v).toInt8 = Int8.ofInt (i32 v).toInt from (Int8.ofInt_int32ToInt _).symm, i32_to (by omega)]
    rw [this, Int8.toInt_ofInt_of_le (by omega) (by omega), i32_to (by omega)]
  have := pk_fb (i32 v)
  rw [e] at this
  exact this
section CX5
variable {Z : zz} {X : cX} {μ0 μ μ' : CM} {cc : ByteArray} {nL : Nat} {own : String} {ret : Option FieldType} {F N kk nn pc : Nat} {a len : Nat}
variable {H : Heap} {locs : List Loc} {ls : Array Slot} {lv : List (Nat × Value)} {stk : List Value} {y : MethodName} {b : ByteArray} {ml index n mc ms fr lo : Nat} {rt : Option FieldType} {Cn : String} {As rest : List Value} {Qc : Array Value → State → Outcome → State → Prop} {free : Addr → Prop}
theorem dr_S (C : gC Z cc nL own ret F N) (hK : cCt Z X μ0) (hI : cI Z X μ0 μ H locs) (hl : lv_has ls nL lv) (n : Nat) (hM : ∃ rm, crm rm mc ms fr lo ml ∧ Met (zz_l Z) y (ws_ y b ml rt) rm (cPc X As μ H.size) Qc mc ms free) (hF : fr ≤ F) (hN : lo ≤ N) (hq : GoodIn lw_all (va_wsS own index y (ws_ y b ml rt))) (hd : y.cls ≠ "java/lang/invoke/MethodHandle" ∧ y.cls ≠ "java/lang/invoke/VarHandle" ∧ (parseMethodDescriptor y.desc).map (fun d => d.parameters.length) = some n) (hW : (rest.map fun v => v.category).sum ≤ 8) (d : decode cc pc = .ok (.invokestatic index, 3)) (hn : As.length = n) (hs : stk = As.reverse ++ rest) (hf : kk + mc ≤ (zz_R Z).cells ∧ nn + ms ≤ (zz_R Z).slots) : cRun Z H locs kk nn mc ms pc ls stk rest (Qc As.toArray) free := by
  obtain ⟨rm, h, hM⟩ := hM
  exact cr_S C hK hI hl n hM hq hd ⟨h.1, h.2.1, Nat.le_trans h.2.2.1 hF, Nat.le_trans h.2.2.2 hN⟩ hW d hn hs hf
theorem dr_V (C : gC Z cc nL own ret F N) (hK : cCt Z X μ0) (hI : cI Z X μ0 μ H locs) (hl : lv_has ls nL lv) (n : Nat) (hrecv : ∃ cell : Cell, H[a]? = some cell ∧ cell.vm.isStatics = false ∧ (zz_s Z).vm.findClass Cn = some cell.cls) (hM : ∃ rm, crm rm mc ms fr lo ml ∧ Met (zz_l Z) y (ws_ y b ml rt) rm (cPc X (.ref a :: As) μ H.size) Qc mc ms free) (hF : fr ≤ F) (hN : lo ≤ N) (hq : GoodIn lw_all (wsV own index Cn y (ws_ y b ml rt))) (hd : y.cls = Cn ∧ y.cls ≠ "java/lang/invoke/MethodHandle" ∧ y.cls ≠ "java/lang/invoke/VarHandle" ∧ (parseMethodDescriptor y.desc).map (fun d => d.parameters.length) = some n) (hW : (rest.map fun v => v.category).sum ≤ 8) (d : decode cc pc = .ok (.invokevirtual index, 3)) (hn : As.length = n) (hs : stk = As.reverse ++ .ref a :: rest) (hf : kk + mc ≤ (zz_R Z).cells ∧ nn + ms ≤ (zz_R Z).slots) : cRun Z H locs kk nn mc ms pc ls stk rest (Qc (Value.ref a :: As).toArray) free := by
  obtain ⟨rm, h, hM⟩ := hM
  exact cr_V C hK hI hl n hrecv hM hq hd ⟨h.1, h.2.1, Nat.le_trans h.2.2.1 hF, Nat.le_trans h.2.2.2 hN⟩ hW d hn hs hf
end CX5
section CX6
variable {Z : zz} {X : cX} {μ0 μ μ' : CM} {cc : ByteArray} {nL : Nat} {own : String} {ret : Option FieldType} {F N kk nn pc : Nat} {L : List (Nat × AV)} {S : List AV}
theorem cx_mmin (C : gC Z cc nL own ret F N) {index : Nat} {x y : Int} (h1 : Cond.methodLink own index Lib.Math.min.name ∈ lw_all) (h2 : Cond.static Lib.Math.min.name ∈ lw_all) (h3 : Cond.initialized "java/lang/Math" ∈ lw_all) (h4 : Cond.code Lib.Math.min.name Lib.Math.min.code 2 (some .int) ∈ lw_all) (hF : 1 ≤ F) (hN : ((S.map toV).map fun v => v.category).sum + 13 ≤ N) (hk : kk ≤ (zz_R Z).cells) (hn : nn ≤ (zz_R Z).slots) (hx : R32 x) (hy : R32 y) (d : decode cc pc = .ok (.invokestatic index, 3)) (K : hG Z nL (cI Z X μ0 μ) kk nn (pc + 3) L (aI (if y < x then y else x) :: S)) : hG Z nL (cI Z X μ0 μ) kk nn pc L (aI y :: aI x :: S) := fun H locs hI ls hl =>
  va_mmin C.x C.b (C.ml.trans hl.1.symm) C.o (C.w _ h1) (C.w _ h2) (C.w _ h3) (C.w _ h4) (Nat.le_trans hF C.f) (Nat.le_trans hN C.nn) hk hn d (by
    have e : (if i32 y < i32 x then i32 y else i32 x) = i32 (if y < x then y else x) := by
      by_cases h : y < x
      · rw [if_pos h, if_pos ((i32_lt hy hx).mpr h)]
      · rw [if_neg h, if_neg (fun q => h ((i32_lt hy hx).mp q))]
    rw [e]
    exact K H locs hI ls hl)
theorem cx_mmax (C : gC Z cc nL own ret F N) {index : Nat} {x y : Int} (h1 : Cond.methodLink own index Lib.Math.max.name ∈ lw_all) (h2 : Cond.static Lib.Math.max.name ∈ lw_all) (h3 : Cond.initialized "java/lang/Math" ∈ lw_all) (h4 : Cond.code Lib.Math.max.name Lib.Math.max.code 2 (some .int) ∈ lw_all) (hF : 1 ≤ F) (hN : ((S.map toV).map fun v => v.category).sum + 13 ≤ N) (hk : kk ≤ (zz_R Z).cells) (hn : nn ≤ (zz_R Z).slots) (hx : R32 x) (hy : R32 y) (d : decode cc pc = .ok (.invokestatic index, 3)) (K : hG Z nL (cI Z X μ0 μ) kk nn (pc + 3) L (aI (if x < y then y else x) :: S)) : hG Z nL (cI Z X μ0 μ) kk nn pc L (aI y :: aI x :: S) := fun H locs hI ls hl =>
  va_mmax C.x C.b (C.ml.trans hl.1.symm) C.o (C.w _ h1) (C.w _ h2) (C.w _ h3) (C.w _ h4) (Nat.le_trans hF C.f) (Nat.le_trans hN C.nn) hk hn d (by
    have e : (if i32 x < i32 y then i32 y else i32 x) = i32 (if x < y then y else x) := by
      by_cases h : x < y
      · rw [if_pos h, if_pos ((i32_lt hx hy).mpr h)]
      · rw [if_neg h, if_neg (fun q => h ((i32_lt hx hy).mp q))]
    rw [e]
    exact K H locs hI ls hl)
end CX6
