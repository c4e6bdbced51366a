/-! walks of the component (printed by gen_comp) -/
set_option maxRecDepth 100000
-- ('BinderPress', 'fault', '()I')
def wc_X0_fault (X : cX) (μ : CM) (Q : Int → CM → Prop) : Prop := Q (kI μ 8 0) μ
set_option maxHeartbeats 4000000 in
theorem sc_X0_fault (l : Launch) (X : cX) (sz : Nat) (Q : Int → CM → Prop) (μ : CM) (hw : wc_X0_fault X μ Q) : Met l yX0_fault (ws_ yX0_fault cX0_fault 1 (some .int)) ({ frames := 0, cells := 0, slots := 0, locals := 0 }) (cPc X (([aR (some (cX_h X))] : List AV).map toV) μ sz) (cQi X μ sz Q) 0 (0) (cA X μ sz) := by
  refine cx_met2 (rm := ({ frames := 0, cells := 0, slots := 0, locals := 0 })) (As := [aR (some (cX_h X))]) (L0 := [(0, aR (some (cX_h X)))]) (by decide) rfl (Nat.le_of_ble_eq_true rfl) rfl ?_
  intro Z C hK hsz hR hl0 hin hQ
  subst hsz
  have C : gC Z cX0_fault 1 RX0 (some .int) 0 0 := C
  have hQ : zz_q Z = MQ (zz_b Z) (cQi X μ (zz_s Z).heap.size Q) (zz_a Z) (zz_s Z) (zz_R Z).cells (zz_R Z).slots (cA X μ (zz_s Z).heap.size) := by rw [hR]; exact hQ
  unfold wc_X0_fault at hw
  refine hx_aload_n C dX0_fault_0 0 rfl rfl ?_
  refine cx_getS (μ := μ) (v := aI (kI μ 8 0)) C hK 0 8 rfl in_X0 (by decide) q174 rfl rfl rfl dX0_fault_1 ?_
  exact cx_iret C hQ (by omega) (by omega) rfl hw dX0_fault_4
-- ('BinderPress', 'isShelf', '(I)Z')
def wc_X0_isShelf (X : cX) (l0 : Int) (μ : CM) (Q : Int → CM → Prop) : Prop := wc_X0_isIn X l0 0 3 μ (fun r1 μ2 => (r1 = 0 ∨ r1 = 1) ∧ Q r1 μ2)
set_option maxHeartbeats 4000000 in
theorem sc_X0_isShelf (l : Launch) (X : cX) (sz : Nat) (Q : Int → CM → Prop) (l0 : Int) (μ : CM) (hw : wc_X0_isShelf X l0 μ Q) : Met l yX0_isShelf (ws_ yX0_isShelf cX0_isShelf 1 (some .boolean)) ({ frames := 1, cells := 0, slots := 0, locals := 30 }) (cPc X (([aI l0] : List AV).map toV) μ sz) (cQi X μ sz Q) 0 (0) (cA X μ sz) := by
  refine cx_met2 (rm := ({ frames := 1, cells := 0, slots := 0, locals := 30 })) (As := [aI l0]) (L0 := [(0, aI l0)]) (by decide) rfl (Nat.le_of_ble_eq_true rfl) rfl ?_
  intro Z C hK hsz hR hl0 hin hQ
  subst hsz
  have C : gC Z cX0_isShelf 1 RX0 (some .boolean) 1 30 := C
  have hQ : zz_q Z = MQ (zz_b Z) (cQi X μ (zz_s Z).heap.size Q) (zz_a Z) (zz_s Z) (zz_R Z).cells (zz_R Z).slots (cA X μ (zz_s Z).heap.size) := by rw [hR]; exact hQ
  unfold wc_X0_isShelf at hw
  refine hx_iload_n C dX0_isShelf_0 0 rfl rfl ?_
  refine hx_iconst C dX0_isShelf_1 ?_
  refine hx_iconst C dX0_isShelf_2 ?_
  refine fun H locs hI ls hl => cx_ri (S := []) hI hl (fun _ h => h) (cr_S (As := [toV (aI l0), toV (aI 0), toV (aI 3)]) (rest := []) C hK hI hl 3 (sc_X0_isIn _ X H.size _ _ _ _ _ hw) (lw_S q205 q206 q84 q207) (by decide +kernel) ⟨rfl, rfl, Nat.le_of_ble_eq_true rfl, Nat.le_of_ble_eq_true rfl⟩ (av_W [] 8 (Nat.le_of_ble_eq_true rfl)) dX0_isShelf_3 rfl rfl ⟨by omega, by omega⟩) (fun r1 μ2 hw => ?_)
  obtain ⟨hz, hw⟩ := hw
  exact cx_iret C hQ (by omega) (by omega) (mz_n hz) hw dX0_isShelf_6
-- ('BinderPress$Sized', 'fits', '(I)Z')
def wc_X10_fits_11 (X : cX) (Q : Int → CM → Prop) (s0 : Int) (μ : CM) : Prop := (s0 = 0 ∨ s0 = 1) ∧ Q s0 μ
set_option maxHeartbeats 4000000 in
theorem sc_X10_fits_11 {Z : zz} {X : cX} {μ0 : CM} {Q : Int → CM → Prop} (C : gC Z cX10_fits 1 RX10 (some .boolean) 0 0) (hK : cCt Z X μ0) (hQ : zz_q Z = MQ (zz_b Z) (cQi X μ0 (zz_s Z).heap.size Q) (zz_a Z) (zz_s Z) (zz_R Z).cells (zz_R Z).slots (cA X μ0 (zz_s Z).heap.size))  : ∀ s0 μ, wc_X10_fits_11 X Q s0 μ → hG Z 1 (cI Z X μ0 μ) 0 0 11 [] [aI s0] := by
  intro s0 μ hw
  unfold wc_X10_fits_11 at hw
  obtain ⟨hz, hw⟩ := hw
  exact cx_iret C hQ (by omega) (by omega) (mz_n hz) hw dX10_fits_11
def wc_X10_fits (X : cX) (l0 : Int) (μ : CM) (Q : Int → CM → Prop) : Prop := R32 l0 ∧ ((120 < l0 → wc_X10_fits_11 X   Q 0 μ) ∧ (l0 ≤ 120 → wc_X10_fits_11 X   Q 1 μ))
set_option maxHeartbeats 4000000 in
theorem sc_X10_fits (l : Launch) (X : cX) (sz : Nat) (Q : Int → CM → Prop) (l0 : Int) (μ : CM) (hw : wc_X10_fits X l0 μ Q) : Met l yX10_fits (ws_ yX10_fits cX10_fits 1 (some .boolean)) ({ frames := 0, cells := 0, slots := 0, locals := 0 }) (cPc X (([aI l0] : List AV).map toV) μ sz) (cQi X μ sz Q) 0 (0) (cA X μ sz) := by
  refine cx_met2 (rm := ({ frames := 0, cells := 0, slots := 0, locals := 0 })) (As := [aI l0]) (L0 := [(0, aI l0)]) (by decide) rfl (Nat.le_of_ble_eq_true rfl) rfl ?_
  intro Z C hK hsz hR hl0 hin hQ
  subst hsz
  have C : gC Z cX10_fits 1 RX10 (some .boolean) 0 0 := C
  have hQ : zz_q Z = MQ (zz_b Z) (cQi X μ (zz_s Z).heap.size Q) (zz_a Z) (zz_s Z) (zz_R Z).cells (zz_R Z).slots (cA X μ (zz_s Z).heap.size) := by rw [hR]; exact hQ
  unfold wc_X10_fits at hw
  refine hx_iload_n C dX10_fits_0 0 rfl rfl ?_
  refine hx_bipush C dX10_fits_1 (by decide) ?_
  obtain ⟨hr1, hw⟩ := hw
  refine hx_icmp_gt (tgt := 10) C dX10_fits_3 (by decide) hr1 (by decide) (fun h => ?_) (fun h => ?_)
  · have hw := hw.1 h
    refine hx_iconst C dX10_fits_10 ?_
    refine hx_L [] rfl ?_
    exact sc_X10_fits_11 C hK hQ  _ _ hw
  · have hw := hw.2 h
    refine hx_iconst C dX10_fits_6 ?_
    refine hx_goto (tgt := 11) C dX10_fits_7 (by decide) ?_
    refine hx_L [] rfl ?_
    exact sc_X10_fits_11 C hK hQ  _ _ hw
-- ('BinderPress$Sized', 'isSmall', '()Z')
def wc_X10_isSmall (X : cX) (l0 : Nat) (μ : CM) (Q : Int → CM → Prop) : Prop := wr_V_size X 130 l0 μ (fun r1 μ2 => wc_X10_fits X r1 μ2 (fun r3 μ4 => (r3 = 0 ∨ r3 = 1) ∧ Q r3 μ4))
set_option maxHeartbeats 4000000 in
theorem sc_X10_isSmall (l : Launch) (X : cX) (sz : Nat) (Q : Int → CM → Prop) (l0 : Nat) (μ : CM) (hw : wc_X10_isSmall X l0 μ Q) : Met l yX10_isSmall (ws_ yX10_isSmall cX10_isSmall 1 (some .boolean)) ({ frames := 131, cells := 0, slots := 0, locals := 2620 }) (cPc X (([aR (some l0)] : List AV).map toV) μ sz) (cQi X μ sz Q) 0 (0) (cA X μ sz) := by
  refine cx_met2 (rm := ({ frames := 131, cells := 0, slots := 0, locals := 2620 })) (As := [aR (some l0)]) (L0 := [(0, aR (some l0))]) (by decide) rfl (Nat.le_of_ble_eq_true rfl) rfl ?_
  intro Z C hK hsz hR hl0 hin hQ
  subst hsz
  have C : gC Z cX10_isSmall 1 RX10 (some .boolean) 131 2620 := C
  have hQ : zz_q Z = MQ (zz_b Z) (cQi X μ (zz_s Z).heap.size Q) (zz_a Z) (zz_s Z) (zz_R Z).cells (zz_R Z).slots (cA X μ (zz_s Z).heap.size) := by rw [hR]; exact hQ
  unfold wc_X10_isSmall at hw
  refine hx_aload_n C dX10_isSmall_0 0 rfl rfl ?_
  refine fun H locs hI ls hl => dvi_size (S := []) C hK hI hl (rr_V_size _ X 130) hw (by omega) (by omega) q583 (av_W [] 8 (Nat.le_of_ble_eq_true rfl)) dX10_isSmall_1 rfl ⟨by omega, by omega⟩ (fun r1 μ2 hw => ?_)
  refine fun H locs hI ls hl => cx_ri (S := []) hI hl (fun _ h => h) (cr_S (As := [toV (aI r1)]) (rest := []) C hK hI hl 1 (sc_X10_fits _ X H.size _ _ _ hw) (lw_S q597 q598 q99 q599) (by decide +kernel) ⟨rfl, rfl, Nat.le_of_ble_eq_true rfl, Nat.le_of_ble_eq_true rfl⟩ (av_W [] 8 (Nat.le_of_ble_eq_true rfl)) dX10_isSmall_6 rfl rfl ⟨by omega, by omega⟩) (fun r3 μ4 hw => ?_)
  obtain ⟨hz, hw⟩ := hw
  exact cx_iret C hQ (by omega) (by omega) (mz_n hz) hw dX10_isSmall_9
-- isSmall
def rmet_V_isSmall (l : Launch) (X : cX) (fr lo : Nat) (rc : Nat → CM → (Int → CM → Prop) → Prop) : Prop := ∀ (a : Nat) (μ : CM) (sz : Nat) (Q : Int → CM → Prop), rc a μ Q → (tg μ a = 6 ∧ ∃ rm, crm rm 0 (0) fr lo 1 ∧ Met l yX10_isSmall (ws_ yX10_isSmall cX10_isSmall 1 (some .boolean)) rm (cPc X (([aR (some a)] : List AV).map toV) μ sz) (cQi X μ sz Q) 0 (0) (cA X μ sz)) ∨ (tg μ a = 7 ∧ ∃ rm, crm rm 0 (0) fr lo 1 ∧ Met l yX10_isSmall (ws_ yX10_isSmall cX10_isSmall 1 (some .boolean)) rm (cPc X (([aR (some a)] : List AV).map toV) μ sz) (cQi X μ sz Q) 0 (0) (cA X μ sz)) ∨ (tg μ a = 8 ∧ ∃ rm, crm rm 0 (0) fr lo 1 ∧ Met l yX10_isSmall (ws_ yX10_isSmall cX10_isSmall 1 (some .boolean)) rm (cPc X (([aR (some a)] : List AV).map toV) μ sz) (cQi X μ sz Q) 0 (0) (cA X μ sz)) ∨ (tg μ a = 5 ∧ ∃ rm, crm rm 0 (0) fr lo 1 ∧ Met l yX10_isSmall (ws_ yX10_isSmall cX10_isSmall 1 (some .boolean)) rm (cPc X (([aR (some a)] : List AV).map toV) μ sz) (cQi X μ sz Q) 0 (0) (cA X μ sz))
set_option maxHeartbeats 4000000 in
theorem dv_isSmall {Z : zz} {X : cX} {μ0 μ : CM} {cc : ByteArray} {nL : Nat} {own : String} {ret : Option FieldType} {F N kk nn pc : Nat} {H : Heap} {locs : List Loc} {ls : Array Slot} {lv : List (Nat × Value)} {stk rest : List Value} {index fr lo : Nat} {Q : Int → CM → Prop} {rc : Nat → CM → (Int → CM → Prop) → Prop} {a : Nat} (C : gC Z cc nL own ret F N) (hK : cCt Z X μ0) (hI : cI Z X μ0 μ H locs) (hl : lv_has ls nL lv) (hrc : rmet_V_isSmall (zz_l Z) X fr lo rc) (hw : rc a μ Q) (hF : fr ≤ F) (hN : lo ≤ N) (hlk : (Cond.methodLink own index ⟨"BinderPress$Term", "isSmall", "()Z"⟩).before (zz_a Z) (zz_s Z) = true) (hW : (rest.map fun v => v.category).sum ≤ 8) (d : decode cc pc = .ok (.invokevirtual index, 3)) (hn : ([] : List Value).length = 0) (hs : stk = ([] : List Value).reverse ++ .ref a :: rest) (hf : kk + 0 ≤ (zz_R Z).cells ∧ nn + 0 ≤ (zz_R Z).slots) : cRun Z H locs kk nn 0 (0) pc ls stk rest (cQi X μ H.size Q (Value.ref a :: []).toArray) (cA X μ H.size) := by
  rcases hrc a μ H.size Q hw with ⟨ht, rm, h, hM⟩ | ⟨ht, rm, h, hM⟩ | ⟨ht, rm, h, hM⟩ | ⟨ht, rm, h, hM⟩
  · exact cr_D (x := ⟨"BinderPress$Term", "isSmall", "()Z"⟩) (owner := "BinderPress$Sized") (Cn := "BinderPress$Name") C hK hI hl 0 (cv_dyn hK hI (ci := 5) rfl (Or.inr (cdE_5 ht))) hM hlk (va_Nw.use rfl (hK.1.2.2.1 _ (List.mem_of_getElem? (i := 75) rfl))) (va_Decl.abs (hK.1.2.2.1 _ (List.mem_of_getElem? (i := 26) rfl))) (hK.1.2.2.2.2.2.2.2.2.at (by decide)) q579 q99 q581 (by decide +kernel) ⟨h.1, h.2.1, Nat.le_trans h.2.2.1 hF, Nat.le_trans h.2.2.2 hN⟩ hW d hn hs hf
  · exact cr_D (x := ⟨"BinderPress$Term", "isSmall", "()Z"⟩) (owner := "BinderPress$Sized") (Cn := "BinderPress$Sign") C hK hI hl 0 (cv_dyn hK hI (ci := 6) rfl (Or.inr (cdE_6 ht))) hM hlk (va_Nw.use rfl (hK.1.2.2.1 _ (List.mem_of_getElem? (i := 75) rfl))) (va_Decl.abs (hK.1.2.2.1 _ (List.mem_of_getElem? (i := 26) rfl))) (hK.1.2.2.2.2.2.2.2.2.at (by decide)) q579 q99 q581 (by decide +kernel) ⟨h.1, h.2.1, Nat.le_trans h.2.2.1 hF, Nat.le_trans h.2.2.2 hN⟩ hW d hn hs hf
  · exact cr_D (x := ⟨"BinderPress$Term", "isSmall", "()Z"⟩) (owner := "BinderPress$Sized") (Cn := "BinderPress$Put") C hK hI hl 0 (cv_dyn hK hI (ci := 7) rfl (Or.inr (cdE_7 ht))) hM hlk (va_Nw.use rfl (hK.1.2.2.1 _ (List.mem_of_getElem? (i := 75) rfl))) (va_Decl.abs (hK.1.2.2.1 _ (List.mem_of_getElem? (i := 26) rfl))) (hK.1.2.2.2.2.2.2.2.2.at (by decide)) q579 q99 q581 (by decide +kernel) ⟨h.1, h.2.1, Nat.le_trans h.2.2.1 hF, Nat.le_trans h.2.2.2 hN⟩ hW d hn hs hf
  · exact cr_D (x := ⟨"BinderPress$Term", "isSmall", "()Z"⟩) (owner := "BinderPress$Sized") (Cn := "BinderPress$Binder") C hK hI hl 0 (cv_dyn hK hI (ci := 4) rfl (Or.inr (cdE_4 ht))) hM hlk (va_Nw.use rfl (hK.1.2.2.1 _ (List.mem_of_getElem? (i := 75) rfl))) (va_Decl.abs (hK.1.2.2.1 _ (List.mem_of_getElem? (i := 26) rfl))) (hK.1.2.2.2.2.2.2.2.2.at (by decide)) q579 q99 q581 (by decide +kernel) ⟨h.1, h.2.1, Nat.le_trans h.2.2.1 hF, Nat.le_trans h.2.2.2 hN⟩ hW d hn hs hf
def wv_isSmall (X : cX) : Nat → CM → (Int → CM → Prop) → Prop := fun a μ Q => (tg μ a = 6 ∧ wc_X10_isSmall X a μ Q) ∨ (tg μ a = 7 ∧ wc_X10_isSmall X a μ Q) ∨ (tg μ a = 8 ∧ wc_X10_isSmall X a μ Q) ∨ (tg μ a = 5 ∧ wc_X10_isSmall X a μ Q)
set_option maxHeartbeats 4000000 in
theorem rr_V_isSmall (l : Launch) (X : cX) : rmet_V_isSmall l X 132 2640 (wv_isSmall X) := by
  intro a μ sz Q h
  rcases h with ⟨ht, hw⟩ | ⟨ht, hw⟩ | ⟨ht, hw⟩ | ⟨ht, hw⟩
  · exact Or.inl (⟨ht, _, ⟨rfl, rfl, by first | omega | (dsimp only; omega), by first | omega | (dsimp only; omega)⟩, sc_X10_isSmall l X sz Q _ _ hw⟩)
  · exact Or.inr (Or.inl (⟨ht, _, ⟨rfl, rfl, by first | omega | (dsimp only; omega), by first | omega | (dsimp only; omega)⟩, sc_X10_isSmall l X sz Q _ _ hw⟩))
  · exact Or.inr (Or.inr (Or.inl (⟨ht, _, ⟨rfl, rfl, by first | omega | (dsimp only; omega), by first | omega | (dsimp only; omega)⟩, sc_X10_isSmall l X sz Q _ _ hw⟩)))
  · exact Or.inr (Or.inr (Or.inr (⟨ht, _, ⟨rfl, rfl, by first | omega | (dsimp only; omega), by first | omega | (dsimp only; omega)⟩, sc_X10_isSmall l X sz Q _ _ hw⟩)))
-- ('BinderPress', 'lay', '(ILBinderPress$Term;)I')
def wc_X0_lay_110 (X : cX) (Q : Int → CM → Prop) (s0 : Int) (μ : CM) : Prop := Q s0 μ
set_option maxHeartbeats 4000000 in
theorem sc_X0_lay_110 {Z : zz} {X : cX} {μ0 : CM} {Q : Int → CM → Prop} (C : gC Z cX0_lay 3 RX0 (some .int) 131 2620) (hK : cCt Z X μ0) (hQ : zz_q Z = MQ (zz_b Z) (cQi X μ0 (zz_s Z).heap.size Q) (zz_a Z) (zz_s Z) (zz_R Z).cells (zz_R Z).slots (cA X μ0 (zz_s Z).heap.size))  : ∀ s0 μ, wc_X0_lay_110 X Q s0 μ → hG Z 3 (cI Z X μ0 μ) 0 0 110 [] [aI s0] := by
  intro s0 μ hw
  unfold wc_X0_lay_110 at hw
  exact cx_iret C hQ (by omega) (by omega) rfl hw dX0_lay_110
def wc_X0_lay_49 (X : cX) (Q : Int → CM → Prop) (l1 : Int) (l2 : Option Nat) (μ : CM) : Prop := (0 ≤ l1 ∧ l1 < 4) ∧ (0 ≤ (kI μ 5 0) ∧ (kI μ 5 0) < 10) ∧ (∀ v, (kR μ 1 (l1).toNat) = some v → 5 ≤ tg μ v ∧ tg μ v ≤ 8) ∧ (0 ≤ (kI μ 5 0) ∧ (kI μ 5 0) < 10) ∧ (0 ≤ l1 ∧ l1 < 4) ∧ (∀ v, l2 = some v → 5 ≤ tg (pkI (pkI (pkR μ 3 ((kI μ 5 0)).toNat (kR μ 1 (l1).toNat)) 4 ((kI μ 5 0)).toNat l1) 5 0 ((kI μ 5 0) + 1)) v ∧ tg (pkI (pkI (pkR μ 3 ((kI μ 5 0)).toNat (kR μ 1 (l1).toNat)) 4 ((kI μ 5 0)).toNat l1) 5 0 ((kI μ 5 0) + 1)) v ≤ 8) ∧ (0 ≤ l1 ∧ l1 < 4) ∧ (∀ v, none = some v → tg (pkR (pkI (pkI (pkR μ 3 ((kI μ 5 0)).toNat (kR μ 1 (l1).toNat)) 4 ((kI μ 5 0)).toNat l1) 5 0 ((kI μ 5 0) + 1)) 1 (l1).toNat l2) v = 13 ∨ tg (pkR (pkI (pkI (pkR μ 3 ((kI μ 5 0)).toNat (kR μ 1 (l1).toNat)) 4 ((kI μ 5 0)).toNat l1) 5 0 ((kI μ 5 0) + 1)) 1 (l1).toNat l2) v = 14) ∧ ((¬ l2 = none → (∃ a9, l2 = some a9 ∧ wr_V_size X 130 a9 (pkR (pkR (pkI (pkI (pkR μ 3 ((kI μ 5 0)).toNat (kR μ 1 (l1).toNat)) 4 ((kI μ 5 0)).toNat l1) 5 0 ((kI μ 5 0) + 1)) 1 (l1).toNat (some a9)) 2 (l1).toNat none) (fun r11 μ12 => wc_X0_lay_110 X   Q r11 μ12))) ∧ (l2 = none → wc_X0_lay_110 X   Q 0 (pkR (pkR (pkI (pkI (pkR μ 3 ((kI μ 5 0)).toNat (kR μ 1 (l1).toNat)) 4 ((kI μ 5 0)).toNat l1) 5 0 ((kI μ 5 0) + 1)) 1 (l1).toNat l2) 2 (l1).toNat none)))
set_option maxHeartbeats 4000000 in
theorem sc_X0_lay_49 {Z : zz} {X : cX} {μ0 : CM} {Q : Int → CM → Prop} (C : gC Z cX0_lay 3 RX0 (some .int) 131 2620) (hK : cCt Z X μ0) (hQ : zz_q Z = MQ (zz_b Z) (cQi X μ0 (zz_s Z).heap.size Q) (zz_a Z) (zz_s Z) (zz_R Z).cells (zz_R Z).slots (cA X μ0 (zz_s Z).heap.size))  : ∀ l1 l2 μ, wc_X0_lay_49 X Q l1 l2 μ → hG Z 3 (cI Z X μ0 μ) 0 0 49 [(0, aR (some (cX_h X))), (1, aI l1), (2, aR l2)] [] := by
  intro l1 l2 μ hw
  unfold wc_X0_lay_49 at hw
  refine hx_aload_n C dX0_lay_49 0 rfl rfl ?_
  refine cx_getS (μ := μ) (v := aR (some (cX_a X 3))) C hK 0 3 rfl in_X0 (by decide) q169 rfl rfl rfl dX0_lay_50 ?_
  refine hx_aload_n C dX0_lay_53 0 rfl rfl ?_
  refine cx_getS (μ := μ) (v := aI (kI μ 5 0)) C hK 0 5 rfl in_X0 (by decide) q171 rfl rfl rfl dX0_lay_54 ?_
  refine hx_aload_n C dX0_lay_57 0 rfl rfl ?_
  refine cx_getS (μ := μ) (v := aR (some (cX_a X 1))) C hK 0 1 rfl in_X0 (by decide) q167 rfl rfl rfl dX0_lay_58 ?_
  refine hx_iload_n C dX0_lay_61 1 rfl rfl ?_
  obtain ⟨hx1, hw⟩ := hw
  refine cx_aald (μ := μ) (f := kR μ 1) C hK 2 rfl (Or.inl ⟨2, rfl⟩) hx1.1 hx1.2 (by decide) dX0_lay_62 ?_
  obtain ⟨hx2, hw⟩ := hw
  obtain ⟨hy3, hw⟩ := hw
  refine cx_aast (μ := μ) (μ' := (pkR μ 3 ((kI μ 5 0)).toNat (kR μ 1 (l1).toNat))) C hK 2 rfl (cu_S 4 rfl (csb_3 X _ _ _) rfl rfl rfl rfl) (cany_T hy3) hx2.1 hx2.2 (by decide) dX0_lay_63 ?_
  refine hx_aload_n C dX0_lay_64 0 rfl rfl ?_
  refine cx_getS (μ := (pkR μ 3 ((kI μ 5 0)).toNat (kR μ 1 (l1).toNat))) (v := aR (some (cX_a X 4))) C hK 0 4 rfl in_X0 (by decide) q170 rfl rfl rfl dX0_lay_65 ?_
  refine hx_aload_n C dX0_lay_68 0 rfl rfl ?_
  refine cx_getS (μ := (pkR μ 3 ((kI μ 5 0)).toNat (kR μ 1 (l1).toNat))) (v := aI (kI μ 5 0)) C hK 0 5 rfl in_X0 (by decide) q171 rfl rfl rfl dX0_lay_69 ?_
  refine hx_iload_n C dX0_lay_72 1 rfl rfl ?_
  obtain ⟨hx4, hw⟩ := hw
  refine cx_iast (μ := (pkR μ 3 ((kI μ 5 0)).toNat (kR μ 1 (l1).toNat))) (μ' := (pkI (pkR μ 3 ((kI μ 5 0)).toNat (kR μ 1 (l1).toNat)) 4 ((kI μ 5 0)).toNat l1)) C hK (cu_S 5 rfl (csb_4 X _ _ _) rfl rfl rfl rfl) hx4.1 hx4.2 (by decide) dX0_lay_73 ?_
  refine hx_aload_n C dX0_lay_74 0 rfl rfl ?_
  refine hx_dup C dX0_lay_75 rfl ?_
  refine cx_getS (μ := (pkI (pkR μ 3 ((kI μ 5 0)).toNat (kR μ 1 (l1).toNat)) 4 ((kI μ 5 0)).toNat l1)) (v := aI (kI μ 5 0)) C hK 0 5 rfl in_X0 (by decide) q171 rfl rfl rfl dX0_lay_76 ?_
  refine hx_iconst C dX0_lay_79 ?_
  refine hx_iadd C dX0_lay_80 ?_
  refine cx_putS C hK 0 5 (by decide) rfl in_X0 tyX0_ok nmX0 (by decide) q171 rfl rfl rfl (Nat.le_of_ble_eq_true rfl) ⟨rfl, rfl⟩ (csb_5 X _ _) rfl rfl rfl rfl dX0_lay_81 ?_
  refine hx_aload_n C dX0_lay_84 0 rfl rfl ?_
  refine cx_getS (μ := (pkI (pkI (pkR μ 3 ((kI μ 5 0)).toNat (kR μ 1 (l1).toNat)) 4 ((kI μ 5 0)).toNat l1) 5 0 ((kI μ 5 0) + 1))) (v := aR (some (cX_a X 1))) C hK 0 1 rfl in_X0 (by decide) q167 rfl rfl rfl dX0_lay_85 ?_
  refine hx_iload_n C dX0_lay_88 1 rfl rfl ?_
  refine hx_aload_n C dX0_lay_89 2 rfl rfl ?_
  obtain ⟨hx5, hw⟩ := hw
  obtain ⟨hy6, hw⟩ := hw
  refine cx_aast (μ := (pkI (pkI (pkR μ 3 ((kI μ 5 0)).toNat (kR μ 1 (l1).toNat)) 4 ((kI μ 5 0)).toNat l1) 5 0 ((kI μ 5 0) + 1))) (μ' := (pkR (pkI (pkI (pkR μ 3 ((kI μ 5 0)).toNat (kR μ 1 (l1).toNat)) 4 ((kI μ 5 0)).toNat l1) 5 0 ((kI μ 5 0) + 1)) 1 (l1).toNat l2)) C hK 2 rfl (cu_S 2 rfl (csb_1 X _ _ _) rfl rfl rfl rfl) (cany_T hy6) hx5.1 hx5.2 (by decide) dX0_lay_90 ?_
  refine hx_aload_n C dX0_lay_91 0 rfl rfl ?_
  refine cx_getS (μ := (pkR (pkI (pkI (pkR μ 3 ((kI μ 5 0)).toNat (kR μ 1 (l1).toNat)) 4 ((kI μ 5 0)).toNat l1) 5 0 ((kI μ 5 0) + 1)) 1 (l1).toNat l2)) (v := aR (some (cX_a X 2))) C hK 0 2 rfl in_X0 (by decide) q168 rfl rfl rfl dX0_lay_92 ?_
  refine hx_iload_n C dX0_lay_95 1 rfl rfl ?_
  refine hx_null C dX0_lay_96 ?_
  obtain ⟨hx7, hw⟩ := hw
  obtain ⟨hy8, hw⟩ := hw
  refine cx_aastS (μ := (pkR (pkI (pkI (pkR μ 3 ((kI μ 5 0)).toNat (kR μ 1 (l1).toNat)) 4 ((kI μ 5 0)).toNat l1) 5 0 ((kI μ 5 0) + 1)) 1 (l1).toNat l2)) (μ' := (pkR (pkR (pkI (pkI (pkR μ 3 ((kI μ 5 0)).toNat (kR μ 1 (l1).toNat)) 4 ((kI μ 5 0)).toNat l1) 5 0 ((kI μ 5 0) + 1)) 1 (l1).toNat l2) 2 (l1).toNat none)) C hK (cu_S 3 rfl (csb_2 X _ _ _) rfl rfl rfl rfl) hy8 hx7.1 hx7.2 (by decide) dX0_lay_97 ?_
  refine hx_aload_n C dX0_lay_98 2 rfl rfl ?_
  refine hx_ifnonnull (tgt := 106) C dX0_lay_99 (by decide) (fun h => ?_) (fun h => ?_)
  · have hw := hw.1 h
    refine hx_aload_n C dX0_lay_106 2 rfl rfl ?_
    obtain ⟨a9, ha10, hw⟩ := hw
    rw [ha10]
    refine fun H locs hI ls hl => cx_ri (S := []) hI hl (fun _ h => h) (dv_size (rest := []) C hK hI hl (rr_V_size _ X 130) hw (by omega) (by omega) (va_Nw.use rfl (hK.1.2.2.1 _ (List.mem_of_getElem? (i := 72) rfl))) (av_W [] 8 (Nat.le_of_ble_eq_true rfl)) dX0_lay_107 rfl rfl ⟨by omega, by omega⟩) (fun r11 μ12 hw => ?_)
    refine hx_L [] rfl ?_
    exact sc_X0_lay_110 C hK hQ  _ _ hw
  · have hw := hw.2 h
    refine hx_iconst C dX0_lay_102 ?_
    refine hx_goto (tgt := 110) C dX0_lay_103 (by decide) ?_
    refine hx_L [] rfl ?_
    exact sc_X0_lay_110 C hK hQ  _ _ hw
def wc_X0_lay (X : cX) (l1 : Int) (l2 : Option Nat) (μ : CM) (Q : Int → CM → Prop) : Prop := R32 (kI μ 5 0) ∧ ((¬ (kI μ 5 0) = 10 → wc_X0_lay_49 X   Q l1 l2 μ) ∧ ((kI μ 5 0) = 10 → ((0 ≤ (1 : Int) ∧ 0 ≤ (0 : Int) ∧ 0 ≤ (9 : Int)) ∧ ((1 : Int) + (9 : Int) ≤ (10 : Nat) ∧ (0 : Int) + (9 : Int) ≤ (10 : Nat)) ∧ (10 : Nat) < 2147483648 ∧ (10 : Nat) < 2147483648) ∧ (∀ i : Nat, (i : Int) < (9 : Int) → ∀ v, (kR μ 3) (((1 : Int)).toNat + i) = some v → 5 ≤ tg μ v ∧ tg μ v ≤ 8) ∧ ((0 ≤ (1 : Int) ∧ 0 ≤ (0 : Int) ∧ 0 ≤ (9 : Int)) ∧ ((1 : Int) + (9 : Int) ≤ (10 : Nat) ∧ (0 : Int) + (9 : Int) ≤ (10 : Nat)) ∧ (10 : Nat) < 2147483648 ∧ (10 : Nat) < 2147483648) ∧ wc_X0_lay_49 X   Q l1 l2 (pkI (pkrI (pkrR μ 3 (va_cpy (kR μ 3) (kR μ 3) ((1 : Int)).toNat ((0 : Int)).toNat ((9 : Int)).toNat)) 4 (va_cpy (kI (pkrR μ 3 (va_cpy (kR μ 3) (kR μ 3) ((1 : Int)).toNat ((0 : Int)).toNat ((9 : Int)).toNat)) 4) (kI (pkrR μ 3 (va_cpy (kR μ 3) (kR μ 3) ((1 : Int)).toNat ((0 : Int)).toNat ((9 : Int)).toNat)) 4) ((1 : Int)).toNat ((0 : Int)).toNat ((9 : Int)).toNat)) 5 0 ((kI μ 5 0) - 1))))
set_option maxHeartbeats 4000000 in
theorem sc_X0_lay (l : Launch) (X : cX) (sz : Nat) (Q : Int → CM → Prop) (l1 : Int) (l2 : Option Nat) (μ : CM) (hw : wc_X0_lay X l1 l2 μ Q) : Met l yX0_lay (ws_ yX0_lay cX0_lay 3 (some .int)) ({ frames := 131, cells := 0, slots := 0, locals := 2620 }) (cPc X (([aR (some (cX_h X)), aI l1, aR l2] : List AV).map toV) μ sz) (cQi X μ sz Q) 0 (0) (cA X μ sz) := by
  refine cx_met2 (rm := ({ frames := 131, cells := 0, slots := 0, locals := 2620 })) (As := [aR (some (cX_h X)), aI l1, aR l2]) (L0 := [(0, aR (some (cX_h X))), (1, aI l1), (2, aR l2)]) (by decide) rfl (Nat.le_of_ble_eq_true rfl) rfl ?_
  intro Z C hK hsz hR hl0 hin hQ
  subst hsz
  have C : gC Z cX0_lay 3 RX0 (some .int) 131 2620 := C
  have hQ : zz_q Z = MQ (zz_b Z) (cQi X μ (zz_s Z).heap.size Q) (zz_a Z) (zz_s Z) (zz_R Z).cells (zz_R Z).slots (cA X μ (zz_s Z).heap.size) := by rw [hR]; exact hQ
  unfold wc_X0_lay at hw
  refine hx_aload_n C dX0_lay_0 0 rfl rfl ?_
  refine cx_getS (μ := μ) (v := aI (kI μ 5 0)) C hK 0 5 rfl in_X0 (by decide) q171 rfl rfl rfl dX0_lay_1 ?_
  refine hx_bipush C dX0_lay_4 (by decide) ?_
  obtain ⟨hr1, hw⟩ := hw
  refine hx_icmp_ne (tgt := 49) C dX0_lay_6 (by decide) hr1 (by decide) (fun h => ?_) (fun h => ?_)
  · have hw := hw.1 h
    refine hx_L [0, 1, 2] rfl ?_
    exact sc_X0_lay_49 C hK hQ  _ _ _ hw
  · have hw := hw.2 h
    refine hx_aload_n C dX0_lay_9 0 rfl rfl ?_
    refine cx_getS (μ := μ) (v := aR (some (cX_a X 3))) C hK 0 3 rfl in_X0 (by decide) q169 rfl rfl rfl dX0_lay_10 ?_
    refine hx_iconst C dX0_lay_13 ?_
    refine hx_aload_n C dX0_lay_14 0 rfl rfl ?_
    refine cx_getS (μ := μ) (v := aR (some (cX_a X 3))) C hK 0 3 rfl in_X0 (by decide) q169 rfl rfl rfl dX0_lay_15 ?_
    refine hx_iconst C dX0_lay_18 ?_
    refine hx_bipush C dX0_lay_19 (by decide) ?_
    obtain ⟨hc2, hw⟩ := hw
    obtain ⟨hx3, hw⟩ := hw
    refine cx_copyT (S := []) (μ := μ) (μ' := (pkrR μ 3 (va_cpy (kR μ 3) (kR μ 3) ((1 : Int)).toNat ((0 : Int)).toNat ((9 : Int)).toNat))) (f := (kR μ 3)) (g := (kR μ 3)) C hK q483 q485 q484 q98 (Or.inl ⟨4, rfl⟩) (cu_S 4 rfl (csr_3 X _ _) rfl rfl rfl rfl) hc2 hx3 (by omega) (by simp [toV_cat, avc, nativeFrameWords]; try omega) dX0_lay_21 ?_
    refine hx_aload_n C dX0_lay_24 0 rfl rfl ?_
    refine cx_getS (μ := (pkrR μ 3 (va_cpy (kR μ 3) (kR μ 3) ((1 : Int)).toNat ((0 : Int)).toNat ((9 : Int)).toNat))) (v := aR (some (cX_a X 4))) C hK 0 4 rfl in_X0 (by decide) q170 rfl rfl rfl dX0_lay_25 ?_
    refine hx_iconst C dX0_lay_28 ?_
    refine hx_aload_n C dX0_lay_29 0 rfl rfl ?_
    refine cx_getS (μ := (pkrR μ 3 (va_cpy (kR μ 3) (kR μ 3) ((1 : Int)).toNat ((0 : Int)).toNat ((9 : Int)).toNat))) (v := aR (some (cX_a X 4))) C hK 0 4 rfl in_X0 (by decide) q170 rfl rfl rfl dX0_lay_30 ?_
    refine hx_iconst C dX0_lay_33 ?_
    refine hx_bipush C dX0_lay_34 (by decide) ?_
    obtain ⟨hc4, hw⟩ := hw
    refine cx_copyI (S := []) (μ := (pkrR μ 3 (va_cpy (kR μ 3) (kR μ 3) ((1 : Int)).toNat ((0 : Int)).toNat ((9 : Int)).toNat))) (μ' := (pkrI (pkrR μ 3 (va_cpy (kR μ 3) (kR μ 3) ((1 : Int)).toNat ((0 : Int)).toNat ((9 : Int)).toNat)) 4 (va_cpy (kI (pkrR μ 3 (va_cpy (kR μ 3) (kR μ 3) ((1 : Int)).toNat ((0 : Int)).toNat ((9 : Int)).toNat)) 4) (kI (pkrR μ 3 (va_cpy (kR μ 3) (kR μ 3) ((1 : Int)).toNat ((0 : Int)).toNat ((9 : Int)).toNat)) 4) ((1 : Int)).toNat ((0 : Int)).toNat ((9 : Int)).toNat))) (f := (kI (pkrR μ 3 (va_cpy (kR μ 3) (kR μ 3) ((1 : Int)).toNat ((0 : Int)).toNat ((9 : Int)).toNat)) 4)) (g := (kI (pkrR μ 3 (va_cpy (kR μ 3) (kR μ 3) ((1 : Int)).toNat ((0 : Int)).toNat ((9 : Int)).toNat)) 4)) C hK q483 q485 q484 q98 (Or.inl ⟨5, rfl⟩) (cu_S 5 rfl (csr_4 X _ _) rfl rfl rfl rfl) hc4 (by omega) (by simp [toV_cat, avc, nativeFrameWords]; try omega) dX0_lay_36 ?_
    refine hx_aload_n C dX0_lay_39 0 rfl rfl ?_
    refine hx_dup C dX0_lay_40 rfl ?_
    refine cx_getS (μ := (pkrI (pkrR μ 3 (va_cpy (kR μ 3) (kR μ 3) ((1 : Int)).toNat ((0 : Int)).toNat ((9 : Int)).toNat)) 4 (va_cpy (kI (pkrR μ 3 (va_cpy (kR μ 3) (kR μ 3) ((1 : Int)).toNat ((0 : Int)).toNat ((9 : Int)).toNat)) 4) (kI (pkrR μ 3 (va_cpy (kR μ 3) (kR μ 3) ((1 : Int)).toNat ((0 : Int)).toNat ((9 : Int)).toNat)) 4) ((1 : Int)).toNat ((0 : Int)).toNat ((9 : Int)).toNat))) (v := aI (kI μ 5 0)) C hK 0 5 rfl in_X0 (by decide) q171 rfl rfl rfl dX0_lay_41 ?_
    refine hx_iconst C dX0_lay_44 ?_
    refine hx_isub C dX0_lay_45 ?_
    refine cx_putS C hK 0 5 (by decide) rfl in_X0 tyX0_ok nmX0 (by decide) q171 rfl rfl rfl (Nat.le_of_ble_eq_true rfl) ⟨rfl, rfl⟩ (csb_5 X _ _) rfl rfl rfl rfl dX0_lay_46 ?_
    refine hx_L [0, 1, 2] rfl ?_
    exact sc_X0_lay_49 C hK hQ  _ _ _ hw
-- ('BinderPress', 'layIfSmall', '(ILBinderPress$Term;)I')
def wc_X0_layIfSmall_18 (X : cX) (Q : Int → CM → Prop) (s0 : Int) (μ : CM) : Prop := Q s0 μ
set_option maxHeartbeats 4000000 in
theorem sc_X0_layIfSmall_18 {Z : zz} {X : cX} {μ0 : CM} {Q : Int → CM → Prop} (C : gC Z cX0_layIfSmall 3 RX0 (some .int) 132 2642) (hK : cCt Z X μ0) (hQ : zz_q Z = MQ (zz_b Z) (cQi X μ0 (zz_s Z).heap.size Q) (zz_a Z) (zz_s Z) (zz_R Z).cells (zz_R Z).slots (cA X μ0 (zz_s Z).heap.size))  : ∀ s0 μ, wc_X0_layIfSmall_18 X Q s0 μ → hG Z 3 (cI Z X μ0 μ) 0 0 18 [] [aI s0] := by
  intro s0 μ hw
  unfold wc_X0_layIfSmall_18 at hw
  exact cx_iret C hQ (by omega) (by omega) rfl hw dX0_layIfSmall_18
def wc_X0_layIfSmall (X : cX) (l1 : Int) (l2 : Option Nat) (μ : CM) (Q : Int → CM → Prop) : Prop := (∃ a1, l2 = some a1 ∧ wv_isSmall X a1 μ (fun r3 μ4 => R32 r3 ∧ ((r3 = 0 → wc_X0_layIfSmall_18 X   Q (-1000000004) μ4) ∧ (¬ r3 = 0 → wc_X0_lay X l1 (some a1) μ4 (fun r6 μ7 => wc_X0_layIfSmall_18 X   Q r6 μ7)))))
set_option maxHeartbeats 4000000 in
theorem sc_X0_layIfSmall (l : Launch) (X : cX) (sz : Nat) (Q : Int → CM → Prop) (l1 : Int) (l2 : Option Nat) (μ : CM) (hw : wc_X0_layIfSmall X l1 l2 μ Q) : Met l yX0_layIfSmall (ws_ yX0_layIfSmall cX0_layIfSmall 3 (some .int)) ({ frames := 132, cells := 0, slots := 0, locals := 2642 }) (cPc X (([aR (some (cX_h X)), aI l1, aR l2] : List AV).map toV) μ sz) (cQi X μ sz Q) 0 (0) (cA X μ sz) := by
  refine cx_met2 (rm := ({ frames := 132, cells := 0, slots := 0, locals := 2642 })) (As := [aR (some (cX_h X)), aI l1, aR l2]) (L0 := [(0, aR (some (cX_h X))), (1, aI l1), (2, aR l2)]) (by decide) rfl (Nat.le_of_ble_eq_true rfl) rfl ?_
  intro Z C hK hsz hR hl0 hin hQ
  subst hsz
  have C : gC Z cX0_layIfSmall 3 RX0 (some .int) 132 2642 := C
  have hQ : zz_q Z = MQ (zz_b Z) (cQi X μ (zz_s Z).heap.size Q) (zz_a Z) (zz_s Z) (zz_R Z).cells (zz_R Z).slots (cA X μ (zz_s Z).heap.size) := by rw [hR]; exact hQ
  unfold wc_X0_layIfSmall at hw
  refine hx_aload_n C dX0_layIfSmall_0 2 rfl rfl ?_
  obtain ⟨a1, ha2, hw⟩ := hw
  rw [ha2]
  refine fun H locs hI ls hl => cx_ri (S := []) hI hl (fun _ h => h) (dv_isSmall (rest := []) C hK hI hl (rr_V_isSmall _ X) hw (by omega) (by omega) (va_Nw.use rfl (hK.1.2.2.1 _ (List.mem_of_getElem? (i := 73) rfl))) (av_W [] 8 (Nat.le_of_ble_eq_true rfl)) dX0_layIfSmall_1 rfl rfl ⟨by omega, by omega⟩) (fun r3 μ4 hw => ?_)
  obtain ⟨hr5, hw⟩ := hw
  refine hx_if_eq (tgt := 16) C dX0_layIfSmall_4 (by decide) hr5 (fun h => ?_) (fun h => ?_)
  · have hw := hw.1 h
    refine hx_ldc C (-1000000004) q209 (by decide) dX0_layIfSmall_16 ?_
    refine hx_L [] rfl ?_
    exact sc_X0_layIfSmall_18 C hK hQ  _ _ hw
  · have hw := hw.2 h
    refine hx_aload_n C dX0_layIfSmall_7 0 rfl rfl ?_
    refine hx_iload_n C dX0_layIfSmall_8 1 rfl rfl ?_
    refine hx_aload_n C dX0_layIfSmall_9 2 rfl rfl ?_
    refine fun H locs hI ls hl => cx_ri (S := []) hI hl (fun _ h => h) (cr_V (Cn := RX0) (As := [toV (aI l1), toV (aR (some a1))]) (rest := []) C hK hI hl 2 (cv_dyn hK hI (ci := 0) rfl (Or.inl ⟨0, rfl⟩)) (sc_X0_lay _ X H.size _ _ _ _ hw) (lw_V q479 q481 qs8 q84 q482) (by decide +kernel) ⟨rfl, rfl, Nat.le_of_ble_eq_true rfl, Nat.le_of_ble_eq_true rfl⟩ (av_W [] 8 (Nat.le_of_ble_eq_true rfl)) dX0_layIfSmall_10 rfl rfl ⟨by omega, by omega⟩) (fun r6 μ7 hw => ?_)
    refine hx_goto (tgt := 18) C dX0_layIfSmall_13 (by decide) ?_
    refine hx_L [] rfl ?_
    exact sc_X0_layIfSmall_18 C hK hQ  _ _ hw
-- ('BinderPress', 'compile', '(I)I')
def wc_X0_compile_38 (X : cX) (Q : Int → CM → Prop) (s0 : Int) (b : Nat) (μ : CM) : Prop := Q s0 μ
set_option maxHeartbeats 4000000 in
theorem sc_X0_compile_38 {Z : zz} {X : cX} {μ0 : CM} {Q : Int → CM → Prop} (C : gC Z cX0_compile 2 RX0 (some .int) 3263 68264) (hK : cCt Z X μ0) (hQ : zz_q Z = MQ (zz_b Z) (cQi X μ0 (zz_s Z).heap.size Q) (zz_a Z) (zz_s Z) (zz_R Z).cells (zz_R Z).slots (cA X μ0 (zz_s Z).heap.size))  : ∀ s0 b μ, wc_X0_compile_38 X Q s0 b μ → ∀ kk nn, (kk + b ≤ (zz_R Z).cells ∧ nn + 5 * b ≤ (zz_R Z).slots) → hG Z 2 (cI Z X μ0 μ) kk nn 38 [] [aI s0] := by
  intro s0 b μ hw kk nn hb
  unfold wc_X0_compile_38 at hw
  exact cx_iret C hQ (by omega) (by omega) rfl hw dX0_compile_38
def wc_X0_compile (X : cX) (b : Nat) (l1 : Int) (μ : CM) (Q : Int → CM → Prop) : Prop := wc_X0_isShelf X l1 μ (fun r1 μ2 => R32 r1 ∧ ((¬ r1 = 0 → (0 ≤ l1 ∧ l1 < 4) ∧ ((¬ (kR μ2 1 (l1).toNat) = none → ((0 ≤ l1 ∧ l1 < 4) ∧ ∃ a6, (kR μ2 1 (l1).toNat) = some a6 ∧ ∃ b8, b8 ≤ b ∧ wr_V_compiled X 130 b8 a6 μ2 (fun r10 μ11 => wc_X0_layIfSmall X l1 r10 μ11 (fun r12 μ13 => wc_X0_compile_38 X   Q r12 (b - b8) μ13)))) ∧ ((kR μ2 1 (l1).toNat) = none → wc_X0_compile_38 X   Q (-1000000003) b μ2))) ∧ (r1 = 0 → Q (-1000000001) μ2)))
set_option maxHeartbeats 4000000 in
theorem sc_X0_compile (l : Launch) (X : cX) (sz : Nat) (Q : Int → CM → Prop) (b : Nat) (l1 : Int) (μ : CM) (hw : wc_X0_compile X b l1 μ Q) : Met l yX0_compile (ws_ yX0_compile cX0_compile 2 (some .int)) ({ frames := 3263, cells := b, slots := 5 * b, locals := 68264 }) (cPc X (([aR (some (cX_h X)), aI l1] : List AV).map toV) μ sz) (cQi X μ sz Q) b (5 * b) (cA X μ sz) := by
  refine cx_met2 (rm := ({ frames := 3263, cells := b, slots := 5 * b, locals := 68264 })) (As := [aR (some (cX_h X)), aI l1]) (L0 := [(0, aR (some (cX_h X))), (1, aI l1)]) (by decide) rfl (Nat.le_of_ble_eq_true rfl) rfl ?_
  intro Z C hK hsz hR hl0 hin hQ
  subst hsz
  have C : gC Z cX0_compile 2 RX0 (some .int) 3263 68264 := C
  have hQ : zz_q Z = MQ (zz_b Z) (cQi X μ (zz_s Z).heap.size Q) (zz_a Z) (zz_s Z) (zz_R Z).cells (zz_R Z).slots (cA X μ (zz_s Z).heap.size) := by rw [hR]; exact hQ
  have hb : 0 + b ≤ (zz_R Z).cells ∧ 0 + 5 * b ≤ (zz_R Z).slots := by rw [hR]; exact ⟨by dsimp only; omega, by dsimp only; omega⟩
  unfold wc_X0_compile at hw
  refine hx_iload_n C dX0_compile_0 1 rfl rfl ?_
  refine fun H locs hI ls hl => cx_ri (S := []) hI hl (fun _ h => h) (cr_S (As := [toV (aI l1)]) (rest := []) C hK hI hl 1 (sc_X0_isShelf _ X H.size _ _ _ hw) (lw_S q215 q216 q84 q217) (by decide +kernel) ⟨rfl, rfl, Nat.le_of_ble_eq_true rfl, Nat.le_of_ble_eq_true rfl⟩ (av_W [] 8 (Nat.le_of_ble_eq_true rfl)) dX0_compile_1 rfl rfl ⟨by omega, by omega⟩) (fun r1 μ2 hw => ?_)
  obtain ⟨hr3, hw⟩ := hw
  refine hx_if_ne (tgt := 10) C dX0_compile_4 (by decide) hr3 (fun h => ?_) (fun h => ?_)
  · have hw := hw.1 h
    refine hx_aload_n C dX0_compile_10 0 rfl rfl ?_
    refine cx_getS (μ := μ2) (v := aR (some (cX_a X 1))) C hK 0 1 rfl in_X0 (by decide) q167 rfl rfl rfl dX0_compile_11 ?_
    refine hx_iload_n C dX0_compile_14 1 rfl rfl ?_
    obtain ⟨hx4, hw⟩ := hw
    refine cx_aald (μ := μ2) (f := kR μ2 1) C hK 2 rfl (Or.inl ⟨2, rfl⟩) hx4.1 hx4.2 (by decide) dX0_compile_15 ?_
    refine hx_ifnonnull (tgt := 24) C dX0_compile_16 (by decide) (fun h => ?_) (fun h => ?_)
    · have hw := hw.1 h
      refine hx_aload_n C dX0_compile_24 0 rfl rfl ?_
      refine hx_iload_n C dX0_compile_25 1 rfl rfl ?_
      refine hx_aload_n C dX0_compile_26 0 rfl rfl ?_
      refine cx_getS (μ := μ2) (v := aR (some (cX_a X 1))) C hK 0 1 rfl in_X0 (by decide) q167 rfl rfl rfl dX0_compile_27 ?_
      refine hx_iload_n C dX0_compile_30 1 rfl rfl ?_
      obtain ⟨hx5, hw⟩ := hw
      refine cx_aald (μ := μ2) (f := kR μ2 1) C hK 2 rfl (Or.inl ⟨2, rfl⟩) hx5.1 hx5.2 (by decide) dX0_compile_31 ?_
      obtain ⟨a6, ha7, hw⟩ := hw
      rw [ha7]
      obtain ⟨b8, hu9, hw⟩ := hw
      refine fun H locs hI ls hl => cx_rr (S := [aI l1, aR (some (cX_h X))]) hI hl (fun _ h => h) (dv_compiled (rest := [toV (aI l1), toV (aR (some (cX_h X)))]) C hK hI hl (rr_V_compiled _ X 130) hw (by omega) (by omega) (C.w _ q495) (av_W [aI l1, aR (some (cX_h X))] 8 (Nat.le_of_ble_eq_true rfl)) dX0_compile_32 rfl rfl ⟨by omega, by omega⟩) (fun r10 μ11 hw => ?_)
      obtain hb : (0 + b8) + (b - b8) ≤ (zz_R Z).cells ∧ (0 + 5 * b8) + 5 * (b - b8) ≤ (zz_R Z).slots := ⟨by omega, by omega⟩
      refine fun H locs hI ls hl => cx_ri (S := []) hI hl (fun _ h => h) (cr_V (Cn := RX0) (As := [toV (aI l1), toV (aR r10)]) (rest := []) C hK hI hl 2 (cv_dyn hK hI (ci := 0) rfl (Or.inl ⟨0, rfl⟩)) (sc_X0_layIfSmall _ X H.size _ _ _ _ hw) (lw_V q570 q572 qs9 q84 q573) (by decide +kernel) ⟨rfl, rfl, Nat.le_of_ble_eq_true rfl, Nat.le_of_ble_eq_true rfl⟩ (av_W [] 8 (Nat.le_of_ble_eq_true rfl)) dX0_compile_35 rfl rfl ⟨by omega, by omega⟩) (fun r12 μ13 hw => ?_)
      refine hx_L [] rfl ?_
      exact sc_X0_compile_38 C hK hQ  _ _ _ hw _ _ hb
    · have hw := hw.2 h
      refine hx_ldc C (-1000000003) q494 (by decide) dX0_compile_19 ?_
      refine hx_goto (tgt := 38) C dX0_compile_21 (by decide) ?_
      refine hx_L [] rfl ?_
      exact sc_X0_compile_38 C hK hQ  _ _ _ hw _ _ hb
  · have hw := hw.2 h
    refine hx_ldc C (-1000000001) q218 (by decide) dX0_compile_7 ?_
    exact cx_iret C hQ (by omega) (by omega) rfl hw dX0_compile_9
