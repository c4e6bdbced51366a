/-! walks of the component (printed by gen_comp) -/
set_option maxRecDepth 100000
-- ('BinderPress$Put', 'deep', '()I')
def wc_X9_deep (X : cX) (rc : Nat → CM → (Int → CM → Prop) → Prop) (l0 : Nat) (μ : CM) (Q : Int → CM → Prop) : Prop := (tg μ l0 = 8 ∧ ∃ a2, (oR μ l0 0) = some a2 ∧ rc a2 μ (fun r4 μ5 => (tg μ5 l0 = 8 ∧ ∃ a7, (oR μ5 l0 1) = some a7 ∧ rc a7 μ5 (fun r9 μ10 => R32 r4 ∧ R32 r9 ∧ Q (1 + (if r4 < r9 then r9 else r4)) μ10))))
set_option maxHeartbeats 4000000 in
theorem sc_X9_deep (l : Launch) (X : cX) (sz : Nat) (Q : Int → CM → Prop) {rc : Nat → CM → (Int → CM → Prop) → Prop} {fr lo : Nat} (hA : 1 ≤ fr) (hB : 30 ≤ lo) (hrc : rmet_V_deep l X fr lo rc) (l0 : Nat) (μ : CM) (hw : wc_X9_deep X rc l0 μ Q) : Met l yX9_deep (ws_ yX9_deep cX9_deep 1 (some .int)) ({ frames := (fr + 0), cells := 0, slots := 0, locals := (lo + 0) }) (cPc X (([aR (some l0)] : List AV).map toV) μ sz) (cQi X μ sz Q) 0 (0) (cA X μ sz) := by
  refine cx_met2 (rm := ({ frames := (fr + 0), cells := 0, slots := 0, locals := (lo + 0) })) (As := [aR (some l0)]) (L0 := [(0, aR (some l0))]) (by decide) rfl (Nat.le_of_ble_eq_true rfl) rfl ?_
  intro Z C hK hsz hR hl0 hin hQ
  subst hsz
  have C : gC Z cX9_deep 1 RX9 (some .int) (fr + 0) (lo + 0) := C
  rw [← hl0] at hrc
  have hQ : zz_q Z = MQ (zz_b Z) (cQi X μ (zz_s Z).heap.size Q) (zz_a Z) (zz_s Z) (zz_R Z).cells (zz_R Z).slots (cA X μ (zz_s Z).heap.size) := by rw [hR]; exact hQ
  unfold wc_X9_deep at hw
  refine hx_iconst C dX9_deep_0 ?_
  refine hx_aload_n C dX9_deep_1 0 rfl rfl ?_
  obtain ⟨ht1, hw⟩ := hw
  refine cx_get (μ := μ) (v := aR (oR μ l0 0)) C hK 7 0 rfl in_X9 (by decide) q459 rfl (cdE_7 ht1) rfl dX9_deep_2 ?_
  obtain ⟨a2, ha3, hw⟩ := hw
  rw [ha3]
  refine fun H locs hI ls hl => cx_ri (S := [aI 1]) hI hl (fun _ h => h) (dv_deep (rest := [toV (aI 1)]) C hK hI hl hrc hw (by omega) (by omega) (C.w _ q1131) (av_W [aI 1] 8 (Nat.le_of_ble_eq_true rfl)) dX9_deep_5 rfl rfl ⟨by omega, by omega⟩) (fun r4 μ5 hw => ?_)
  refine hx_aload_n C dX9_deep_8 0 rfl rfl ?_
  obtain ⟨ht6, hw⟩ := hw
  refine cx_get (μ := μ5) (v := aR (oR μ5 l0 1)) C hK 7 1 rfl in_X9 (by decide) q462 rfl (cdE_7 ht6) rfl dX9_deep_9 ?_
  obtain ⟨a7, ha8, hw⟩ := hw
  rw [ha8]
  refine fun H locs hI ls hl => cx_ri (S := [aI r4, aI 1]) hI hl (fun _ h => h) (dv_deep (rest := [toV (aI r4), toV (aI 1)]) C hK hI hl hrc hw (by omega) (by omega) (C.w _ q1131) (av_W [aI r4, aI 1] 8 (Nat.le_of_ble_eq_true rfl)) dX9_deep_12 rfl rfl ⟨by omega, by omega⟩) (fun r9 μ10 hw => ?_)
  obtain ⟨hr11, hw⟩ := hw
  obtain ⟨hr12, hw⟩ := hw
  refine cx_mmax (S := [aI 1]) C q1134 q928 q97 q929 (by omega) (by simp [toV_cat, avc]; try omega) (by omega) (by omega) hr11 hr12 dX9_deep_15 ?_
  refine hx_iadd C dX9_deep_18 ?_
  exact cx_iret C hQ (by omega) (by omega) rfl hw dX9_deep_19
-- deep
def wd_deep (X : cX) (rc : Nat → CM → (Int → CM → Prop) → Prop) : Nat → CM → (Int → CM → Prop) → Prop := fun a μ Q => (tg μ a = 6 ∧ wc_X7_deep X a μ Q) ∨ (tg μ a = 7 ∧ wc_X8_deep X a μ Q) ∨ (tg μ a = 8 ∧ wc_X9_deep X rc a μ Q) ∨ (tg μ a = 5 ∧ wc_X6_deep X rc a μ Q)
def wr_V_deep (X : cX) : Nat → Nat → CM → (Int → CM → Prop) → Prop
  | 0 => fun _ _ _ => False
  | d + 1 => wd_deep X (wr_V_deep X d)
set_option maxHeartbeats 4000000 in
theorem rr_V_deep (l : Launch) (X : cX) : ∀ d, rmet_V_deep l X (1 + 1 * d) (30 + 20 * d) (wr_V_deep X d) := by
  intro d
  induction d with
  | zero => intro a μ sz Q h; exact h.elim
  | succ d ih =>
    intro a μ sz Q h
    rcases h with ⟨ht, hw⟩ | ⟨ht, hw⟩ | ⟨ht, hw⟩ | ⟨ht, hw⟩
    · exact Or.inl (⟨ht, _, ⟨rfl, rfl, by first | omega | (dsimp only; omega), by first | omega | (dsimp only; omega)⟩, sc_X7_deep l X sz Q _ _ hw⟩)
    · exact Or.inr (Or.inl (⟨ht, _, ⟨rfl, rfl, by first | omega | (dsimp only; omega), by first | omega | (dsimp only; omega)⟩, sc_X8_deep l X sz Q _ _ hw⟩))
    · exact Or.inr (Or.inr (Or.inl (⟨ht, _, ⟨rfl, rfl, by first | omega | (dsimp only; omega), by first | omega | (dsimp only; omega)⟩, sc_X9_deep l X sz Q (by omega) (by omega) ih _ _ hw⟩)))
    · exact Or.inr (Or.inr (Or.inr (⟨ht, _, ⟨rfl, rfl, by first | omega | (dsimp only; omega), by first | omega | (dsimp only; omega)⟩, sc_X6_deep l X sz Q (by omega) (by omega) ih _ _ hw⟩)))
-- ('BinderPress$Term', 'hasFree', '(I)Z')
def wc_X5_hasFree_20 (X : cX) (Q : Int → CM → Prop) (s0 : Int) (μ : CM) : Prop := (s0 = 0 ∨ s0 = 1) ∧ Q s0 μ
set_option maxHeartbeats 4000000 in
theorem sc_X5_hasFree_20 {Z : zz} {X : cX} {μ0 : CM} {Q : Int → CM → Prop} (C : gC Z cX5_hasFree 2 RX5 (some .boolean) 131 2620) (hK : cCt Z X μ0) (hQ : zz_q Z = MQ (zz_b Z) (cQi X μ0 (zz_s Z).heap.size Q) (zz_a Z) (zz_s Z) (zz_R Z).cells (zz_R Z).slots (cA X μ0 (zz_s Z).heap.size))  : ∀ s0 μ, wc_X5_hasFree_20 X Q s0 μ → hG Z 2 (cI Z X μ0 μ) 0 0 20 [] [aI s0] := by
  intro s0 μ hw
  unfold wc_X5_hasFree_20 at hw
  obtain ⟨hz, hw⟩ := hw
  exact cx_iret C hQ (by omega) (by omega) (mz_n hz) hw dX5_hasFree_20
def wc_X5_hasFree (X : cX) (l0 : Nat) (l1 : Int) (μ : CM) (Q : Int → CM → Prop) : Prop := wr_V_free X 130 l0 μ (fun r1 μ2 => R32 (io_and (io_shr r1 (l1 - 97)) 1) ∧ ((¬ (io_and (io_shr r1 (l1 - 97)) 1) = 1 → wc_X5_hasFree_20 X   Q 0 μ2) ∧ ((io_and (io_shr r1 (l1 - 97)) 1) = 1 → wc_X5_hasFree_20 X   Q 1 μ2)))
set_option maxHeartbeats 4000000 in
theorem sc_X5_hasFree (l : Launch) (X : cX) (sz : Nat) (Q : Int → CM → Prop) (l0 : Nat) (l1 : Int) (μ : CM) (hw : wc_X5_hasFree X l0 l1 μ Q) : Met l yX5_hasFree (ws_ yX5_hasFree cX5_hasFree 2 (some .boolean)) ({ frames := 131, cells := 0, slots := 0, locals := 2620 }) (cPc X (([aR (some l0), aI l1] : List AV).map toV) μ sz) (cQi X μ sz Q) 0 (0) (cA X μ sz) := by
  refine cx_met2 (rm := ({ frames := 131, cells := 0, slots := 0, locals := 2620 })) (As := [aR (some l0), aI l1]) (L0 := [(0, aR (some l0)), (1, aI l1)]) (by decide) rfl (Nat.le_of_ble_eq_true rfl) rfl ?_
  intro Z C hK hsz hR hl0 hin hQ
  subst hsz
  have C : gC Z cX5_hasFree 2 RX5 (some .boolean) 131 2620 := C
  have hQ : zz_q Z = MQ (zz_b Z) (cQi X μ (zz_s Z).heap.size Q) (zz_a Z) (zz_s Z) (zz_R Z).cells (zz_R Z).slots (cA X μ (zz_s Z).heap.size) := by rw [hR]; exact hQ
  unfold wc_X5_hasFree at hw
  refine hx_aload_n C dX5_hasFree_0 0 rfl rfl ?_
  refine fun H locs hI ls hl => cx_ri (S := []) hI hl (fun _ h => h) (dv_free (rest := []) C hK hI hl (rr_V_free _ X 130) hw (by omega) (by omega) (C.w _ q549) (av_W [] 8 (Nat.le_of_ble_eq_true rfl)) dX5_hasFree_1 rfl rfl ⟨by omega, by omega⟩) (fun r1 μ2 hw => ?_)
  refine hx_iload_n C dX5_hasFree_4 1 rfl rfl ?_
  refine hx_bipush C dX5_hasFree_5 (by decide) ?_
  refine hx_isub C dX5_hasFree_7 ?_
  refine hx_ishr C dX5_hasFree_8 ?_
  refine hx_iconst C dX5_hasFree_9 ?_
  refine hx_iand C dX5_hasFree_10 ?_
  refine hx_iconst C dX5_hasFree_11 ?_
  obtain ⟨hr3, hw⟩ := hw
  refine hx_icmp_ne (tgt := 19) C dX5_hasFree_12 (by decide) hr3 (by decide) (fun h => ?_) (fun h => ?_)
  · have hw := hw.1 h
    refine hx_iconst C dX5_hasFree_19 ?_
    refine hx_L [] rfl ?_
    exact sc_X5_hasFree_20 C hK hQ  _ _ hw
  · have hw := hw.2 h
    refine hx_iconst C dX5_hasFree_15 ?_
    refine hx_goto (tgt := 20) C dX5_hasFree_16 (by decide) ?_
    refine hx_L [] rfl ?_
    exact sc_X5_hasFree_20 C hK hQ  _ _ hw
-- hasFree
def rmet_V_hasFree (l : Launch) (X : cX) (fr lo : Nat) (rc : Nat → Int → CM → (Int → CM → Prop) → Prop) : Prop := ∀ (a : Nat) (l1 : Int) (μ : CM) (sz : Nat) (Q : Int → CM → Prop), rc a l1 μ Q → (tg μ a = 6 ∧ ∃ rm, crm rm 0 (0) fr lo 2 ∧ Met l yX5_hasFree (ws_ yX5_hasFree cX5_hasFree 2 (some .boolean)) rm (cPc X (([aR (some a), aI l1] : List AV).map toV) μ sz) (cQi X μ sz Q) 0 (0) (cA X μ sz)) ∨ (tg μ a = 7 ∧ ∃ rm, crm rm 0 (0) fr lo 2 ∧ Met l yX5_hasFree (ws_ yX5_hasFree cX5_hasFree 2 (some .boolean)) rm (cPc X (([aR (some a), aI l1] : List AV).map toV) μ sz) (cQi X μ sz Q) 0 (0) (cA X μ sz)) ∨ (tg μ a = 8 ∧ ∃ rm, crm rm 0 (0) fr lo 2 ∧ Met l yX5_hasFree (ws_ yX5_hasFree cX5_hasFree 2 (some .boolean)) rm (cPc X (([aR (some a), aI l1] : List AV).map toV) μ sz) (cQi X μ sz Q) 0 (0) (cA X μ sz)) ∨ (tg μ a = 5 ∧ ∃ rm, crm rm 0 (0) fr lo 2 ∧ Met l yX5_hasFree (ws_ yX5_hasFree cX5_hasFree 2 (some .boolean)) rm (cPc X (([aR (some a), aI l1] : List AV).map toV) μ sz) (cQi X μ sz Q) 0 (0) (cA X μ sz))
set_option maxHeartbeats 4000000 in
theorem dv_hasFree {Z : zz} {X : cX} {μ0 μ : CM} {cc : ByteArray} {nL : Nat} {own : String} {ret : Option FieldType} {F N kk nn pc : Nat} {H : Heap} {locs : List Loc} {ls : Array Slot} {lv : List (Nat × Value)} {stk rest : List Value} {index fr lo : Nat} {Q : Int → CM → Prop} {rc : Nat → Int → CM → (Int → CM → Prop) → Prop} {a : Nat} {l1 : Int} (C : gC Z cc nL own ret F N) (hK : cCt Z X μ0) (hI : cI Z X μ0 μ H locs) (hl : lv_has ls nL lv) (hrc : rmet_V_hasFree (zz_l Z) X fr lo rc) (hw : rc a l1 μ Q) (hF : fr ≤ F) (hN : lo ≤ N) (hlk : (Cond.methodLink own index ⟨"BinderPress$Term", "hasFree", "(I)Z"⟩).before (zz_a Z) (zz_s Z) = true) (hW : (rest.map fun v => v.category).sum ≤ 8) (d : decode cc pc = .ok (.invokevirtual index, 3)) (hn : ([toV (aI l1)] : List Value).length = 1) (hs : stk = ([toV (aI l1)] : List Value).reverse ++ .ref a :: rest) (hf : kk + 0 ≤ (zz_R Z).cells ∧ nn + 0 ≤ (zz_R Z).slots) : cRun Z H locs kk nn 0 (0) pc ls stk rest (cQi X μ H.size Q (Value.ref a :: [toV (aI l1)]).toArray) (cA X μ H.size) := by
  rcases hrc a l1 μ H.size Q hw with ⟨ht, rm, h, hM⟩ | ⟨ht, rm, h, hM⟩ | ⟨ht, rm, h, hM⟩ | ⟨ht, rm, h, hM⟩
  · exact cr_U (x := ⟨"BinderPress$Term", "hasFree", "(I)Z"⟩) (owner := "BinderPress$Term") (Cn := "BinderPress$Name") C hK hI hl 1 (cv_dyn hK hI (ci := 5) rfl (Or.inr (cdE_5 ht))) hM hlk (C.w _ q1806) (va_Decl.abs (hK.1.2.2.1 _ (List.mem_of_getElem? (i := 45) rfl))) (C.w _ q1808) q547 q92 q548 (by decide +kernel) ⟨h.1, h.2.1, Nat.le_trans h.2.2.1 hF, Nat.le_trans h.2.2.2 hN⟩ hW d hn hs hf
  · exact cr_U (x := ⟨"BinderPress$Term", "hasFree", "(I)Z"⟩) (owner := "BinderPress$Term") (Cn := "BinderPress$Sign") C hK hI hl 1 (cv_dyn hK hI (ci := 6) rfl (Or.inr (cdE_6 ht))) hM hlk (C.w _ q1806) (va_Decl.abs (hK.1.2.2.1 _ (List.mem_of_getElem? (i := 45) rfl))) (C.w _ q1810) q547 q92 q548 (by decide +kernel) ⟨h.1, h.2.1, Nat.le_trans h.2.2.1 hF, Nat.le_trans h.2.2.2 hN⟩ hW d hn hs hf
  · exact cr_U (x := ⟨"BinderPress$Term", "hasFree", "(I)Z"⟩) (owner := "BinderPress$Term") (Cn := "BinderPress$Put") C hK hI hl 1 (cv_dyn hK hI (ci := 7) rfl (Or.inr (cdE_7 ht))) hM hlk (C.w _ q1806) (va_Decl.abs (hK.1.2.2.1 _ (List.mem_of_getElem? (i := 45) rfl))) (C.w _ q1809) q547 q92 q548 (by decide +kernel) ⟨h.1, h.2.1, Nat.le_trans h.2.2.1 hF, Nat.le_trans h.2.2.2 hN⟩ hW d hn hs hf
  · exact cr_U (x := ⟨"BinderPress$Term", "hasFree", "(I)Z"⟩) (owner := "BinderPress$Term") (Cn := "BinderPress$Binder") C hK hI hl 1 (cv_dyn hK hI (ci := 4) rfl (Or.inr (cdE_4 ht))) hM hlk (C.w _ q1806) (va_Decl.abs (hK.1.2.2.1 _ (List.mem_of_getElem? (i := 45) rfl))) (C.w _ q1807) q547 q92 q548 (by decide +kernel) ⟨h.1, h.2.1, Nat.le_trans h.2.2.1 hF, Nat.le_trans h.2.2.2 hN⟩ hW d hn hs hf
def wv_hasFree (X : cX) : Nat → Int → CM → (Int → CM → Prop) → Prop := fun a l1 μ Q => (tg μ a = 6 ∧ wc_X5_hasFree X a l1 μ Q) ∨ (tg μ a = 7 ∧ wc_X5_hasFree X a l1 μ Q) ∨ (tg μ a = 8 ∧ wc_X5_hasFree X a l1 μ Q) ∨ (tg μ a = 5 ∧ wc_X5_hasFree X a l1 μ Q)
set_option maxHeartbeats 4000000 in
theorem rr_V_hasFree (l : Launch) (X : cX) : rmet_V_hasFree l X 132 2641 (wv_hasFree X) := by
  intro a l1 μ sz Q h
  rcases h with ⟨ht, hw⟩ | ⟨ht, hw⟩ | ⟨ht, hw⟩ | ⟨ht, hw⟩
  · exact Or.inl (⟨ht, _, ⟨rfl, rfl, by first | omega | (dsimp only; omega), by first | omega | (dsimp only; omega)⟩, sc_X5_hasFree l X sz Q _ _ _ hw⟩)
  · exact Or.inr (Or.inl (⟨ht, _, ⟨rfl, rfl, by first | omega | (dsimp only; omega), by first | omega | (dsimp only; omega)⟩, sc_X5_hasFree l X sz Q _ _ _ hw⟩))
  · exact Or.inr (Or.inr (Or.inl (⟨ht, _, ⟨rfl, rfl, by first | omega | (dsimp only; omega), by first | omega | (dsimp only; omega)⟩, sc_X5_hasFree l X sz Q _ _ _ hw⟩)))
  · exact Or.inr (Or.inr (Or.inr (⟨ht, _, ⟨rfl, rfl, by first | omega | (dsimp only; omega), by first | omega | (dsimp only; omega)⟩, sc_X5_hasFree l X sz Q _ _ _ hw⟩)))
-- ('BinderPress', 'textOf', '(I)Ljava/lang/String;')
def wc_X0_textOf_79 (X : cX) (Q : Option Nat → CM → Prop) (s0 : Option Nat) (μ : CM) : Prop := Q s0 μ
set_option maxHeartbeats 4000000 in
theorem sc_X0_textOf_79 {Z : zz} {X : cX} {μ0 : CM} {Q : Option Nat → CM → Prop} (C : gC Z cX0_textOf 1 RX0 (some (.object "java/lang/String")) 0 0) (hK : cCt Z X μ0) (hQ : zz_q Z = MQ (zz_b Z) (cQr X μ0 (zz_s Z).heap.size Q) (zz_a Z) (zz_s Z) (zz_R Z).cells (zz_R Z).slots (cA X μ0 (zz_s Z).heap.size))  : ∀ s0 μ, wc_X0_textOf_79 X Q s0 μ → hG Z 1 (cI Z X μ0 μ) 0 0 79 [] [aR s0] := by
  intro s0 μ hw
  unfold wc_X0_textOf_79 at hw
  exact cx_aret C hQ (by omega) (by omega) (Or.inl ⟨_, rfl⟩) hw dX0_textOf_79
def wc_X0_textOf (X : cX) (l0 : Int) (μ : CM) (Q : Option Nat → CM → Prop) : Prop := R32 l0 ∧ ((l0 = 66 → wc_X0_textOf_79 X   Q (some (cX_s X 3)) μ) ∧ (l0 = 67 → wc_X0_textOf_79 X   Q (some (cX_s X 4)) μ) ∧ (l0 = 73 → wc_X0_textOf_79 X   Q (some (cX_s X 0)) μ) ∧ (l0 = 75 → wc_X0_textOf_79 X   Q (some (cX_s X 1)) μ) ∧ (l0 = 83 → wc_X0_textOf_79 X   Q (some (cX_s X 2)) μ) ∧ ((¬ l0 = 66 ∧ ¬ l0 = 67 ∧ ¬ l0 = 73 ∧ ¬ l0 = 75 ∧ ¬ l0 = 83) → wc_X0_textOf_79 X   Q (some (cX_s X 5)) μ))
set_option maxHeartbeats 4000000 in
theorem sc_X0_textOf (l : Launch) (X : cX) (sz : Nat) (Q : Option Nat → CM → Prop) (l0 : Int) (μ : CM) (hw : wc_X0_textOf X l0 μ Q) : Met l yX0_textOf (ws_ yX0_textOf cX0_textOf 1 (some (.object "java/lang/String"))) ({ frames := 0, cells := 0, slots := 0, locals := 0 }) (cPc X (([aI l0] : List AV).map toV) μ sz) (cQr X μ sz Q) 0 (0) (cA X μ sz) := by
  refine cx_met2 (rm := ({ frames := 0, cells := 0, slots := 0, locals := 0 })) (As := [aI l0]) (L0 := [(0, aI l0)]) (by decide) rfl (Nat.le_of_ble_eq_true rfl) rfl ?_
  intro Z C hK hsz hR hl0 hin hQ
  subst hsz
  have C : gC Z cX0_textOf 1 RX0 (some (.object "java/lang/String")) 0 0 := C
  have hQ : zz_q Z = MQ (zz_b Z) (cQr X μ (zz_s Z).heap.size Q) (zz_a Z) (zz_s Z) (zz_R Z).cells (zz_R Z).slots (cA X μ (zz_s Z).heap.size) := by rw [hR]; exact hQ
  unfold wc_X0_textOf at hw
  refine hx_iload_n C dX0_textOf_0 0 rfl rfl ?_
  obtain ⟨hr1, hw⟩ := hw
  rcases (show l0 = 66 ∨ l0 = 67 ∨ l0 = 73 ∨ l0 = 75 ∨ l0 = 83 ∨ (¬ l0 = 66 ∧ ¬ l0 = 67 ∧ ¬ l0 = 73 ∧ ¬ l0 = 75 ∧ ¬ l0 = 83) by omega) with h | h | h | h | h | h
  · have hw := hw.1 h
    refine hx_lookup (tgt := 67) (off := 66) C dX0_textOf_1 hr1 rfl (by rw [h]; rfl) (by decide) ?_
    refine cx_ldcS (num := 3) (tx := "B") C hK (List.mem_of_getElem? (i := 3) rfl) dX0_textOf_67 ?_
    refine hx_goto (tgt := 79) C dX0_textOf_69 (by decide) ?_
    refine hx_L [] rfl ?_
    exact sc_X0_textOf_79 C hK hQ  _ _ hw
  · have hw := hw.2.1 h
    refine hx_lookup (tgt := 72) (off := 71) C dX0_textOf_1 hr1 rfl (by rw [h]; rfl) (by decide) ?_
    refine cx_ldcS (num := 4) (tx := "C") C hK (List.mem_of_getElem? (i := 4) rfl) dX0_textOf_72 ?_
    refine hx_goto (tgt := 79) C dX0_textOf_74 (by decide) ?_
    refine hx_L [] rfl ?_
    exact sc_X0_textOf_79 C hK hQ  _ _ hw
  · have hw := hw.2.2.1 h
    refine hx_lookup (tgt := 52) (off := 51) C dX0_textOf_1 hr1 rfl (by rw [h]; rfl) (by decide) ?_
    refine cx_ldcS (num := 0) (tx := "I") C hK (List.mem_of_getElem? (i := 0) rfl) dX0_textOf_52 ?_
    refine hx_goto (tgt := 79) C dX0_textOf_54 (by decide) ?_
    refine hx_L [] rfl ?_
    exact sc_X0_textOf_79 C hK hQ  _ _ hw
  · have hw := hw.2.2.2.1 h
    refine hx_lookup (tgt := 57) (off := 56) C dX0_textOf_1 hr1 rfl (by rw [h]; rfl) (by decide) ?_
    refine cx_ldcS (num := 1) (tx := "K") C hK (List.mem_of_getElem? (i := 1) rfl) dX0_textOf_57 ?_
    refine hx_goto (tgt := 79) C dX0_textOf_59 (by decide) ?_
    refine hx_L [] rfl ?_
    exact sc_X0_textOf_79 C hK hQ  _ _ hw
  · have hw := hw.2.2.2.2.1 h
    refine hx_lookup (tgt := 62) (off := 61) C dX0_textOf_1 hr1 rfl (by rw [h]; rfl) (by decide) ?_
    refine cx_ldcS (num := 2) (tx := "S") C hK (List.mem_of_getElem? (i := 2) rfl) dX0_textOf_62 ?_
    refine hx_goto (tgt := 79) C dX0_textOf_64 (by decide) ?_
    refine hx_L [] rfl ?_
    exact sc_X0_textOf_79 C hK hQ  _ _ hw
  · have hw := hw.2.2.2.2.2 h
    refine hx_lookup (tgt := 77) (off := 76) C dX0_textOf_1 hr1 rfl (by simp only [Op.lookupswitch.offset, List.toList_toArray]; repeat (rw [if_neg (by omega)])) (by decide) ?_
    refine cx_ldcS (num := 5) (tx := "") C hK (List.mem_of_getElem? (i := 5) rfl) dX0_textOf_77 ?_
    refine hx_L [] rfl ?_
    exact sc_X0_textOf_79 C hK hQ  _ _ hw
-- ('BinderPress$Term', '<init>', '()V')
def wc_X5_init (X : cX) (l0 : Nat) (μ : CM) (Q : CM → Prop) : Prop := Q μ
set_option maxHeartbeats 4000000 in
theorem sc_X5_init (l : Launch) (X : cX) (sz : Nat) (Q : CM → Prop) (l0 : Nat) (μ : CM) (hw : wc_X5_init X l0 μ Q) : Met l yX5_init (ws_ yX5_init cX5_init 1 none) ({ frames := 1, cells := 0, slots := 0, locals := 30 }) (cPc X (([aR (some l0)] : List AV).map toV) μ sz) (cQv X μ sz Q) 0 (0) (cA X μ sz) := by
  refine cx_met2 (rm := ({ frames := 1, cells := 0, slots := 0, locals := 30 })) (As := [aR (some l0)]) (L0 := [(0, aR (some l0))]) (by decide) rfl (Nat.le_of_ble_eq_true rfl) rfl ?_
  intro Z C hK hsz hR hl0 hin hQ
  subst hsz
  have C : gC Z cX5_init 1 RX5 none 1 30 := C
  have hQ : zz_q Z = MQ (zz_b Z) (cQv X μ (zz_s Z).heap.size Q) (zz_a Z) (zz_s Z) (zz_R Z).cells (zz_R Z).slots (cA X μ (zz_s Z).heap.size) := by rw [hR]; exact hQ
  unfold wc_X5_init at hw
  refine hx_aload_n C dX5_init_0 0 rfl rfl ?_
  refine cx_objInit C q374 q116 q117 (by omega) (by simp [toV_cat, avc]; try omega) dX5_init_1 ?_
  exact cx_vret C hQ (by omega) (by omega) hw dX5_init_4
-- ('BinderPress$Sign', '<init>', '(Ljava/lang/String;)V')
def wc_X8_init (X : cX) (l0 : Nat) (l1 : Option Nat) (μ : CM) (Q : CM → Prop) : Prop := wc_X5_init X l0 μ (fun μ2 => tg μ2 l0 = 7 ∧ Q (poR μ2 l0 0 l1))
set_option maxHeartbeats 4000000 in
theorem sc_X8_init (l : Launch) (X : cX) (sz : Nat) (Q : CM → Prop) (l0 : Nat) (l1 : Option Nat) (μ : CM) (hw : wc_X8_init X l0 l1 μ Q) : Met l yX8_init (ws_ yX8_init cX8_init 2 none) ({ frames := 2, cells := 0, slots := 0, locals := 50 }) (cPc X (([aR (some l0), aR l1] : List AV).map toV) μ sz) (cQv X μ sz Q) 0 (0) (cA X μ sz) := by
  refine cx_met2 (rm := ({ frames := 2, cells := 0, slots := 0, locals := 50 })) (As := [aR (some l0), aR l1]) (L0 := [(0, aR (some l0)), (1, aR l1)]) (by decide) rfl (Nat.le_of_ble_eq_true rfl) rfl ?_
  intro Z C hK hsz hR hl0 hin hQ
  subst hsz
  have C : gC Z cX8_init 2 RX8 none 2 50 := C
  have hQ : zz_q Z = MQ (zz_b Z) (cQv X μ (zz_s Z).heap.size Q) (zz_a Z) (zz_s Z) (zz_R Z).cells (zz_R Z).slots (cA X μ (zz_s Z).heap.size) := by rw [hR]; exact hQ
  unfold wc_X8_init at hw
  refine hx_aload_n C dX8_init_0 0 rfl rfl ?_
  refine fun H locs hI ls hl => cx_rv (S := []) hI hl (fun _ h => h) (cr_IN (a := l0) (As := []) (rest := []) C hK hI hl 0 (sc_X5_init _ X H.size _ _ _ hw) (List.mem_of_getElem? (i := 58) rfl) q372 q92 q373 rfl (by decide +kernel) ⟨rfl, rfl, Nat.le_of_ble_eq_true rfl, Nat.le_of_ble_eq_true rfl⟩ (av_W [] 8 (Nat.le_of_ble_eq_true rfl)) dX8_init_1 rfl rfl ⟨by omega, by omega⟩) (fun μ2 hw => ?_)
  refine hx_aload_n C dX8_init_4 0 rfl rfl ?_
  refine hx_aload_n C dX8_init_5 1 rfl rfl ?_
  obtain ⟨ht3, hw⟩ := hw
  refine cx_putF (μ := μ2) (μ' := (poR μ2 l0 0 l1)) C hK hin 6 0 rfl in_X8 tyX8_ok nmX8 (by decide) q409 rfl rfl rfl (cdE_6 ht3) (Nat.le_of_ble_eq_true rfl) (cz_r (ty := tyX8 0) rfl l1) (cset_6_0 μ2 l0 l1) (cdE_6 ht3) rfl rfl rfl (fun _ _ => rfl) (fun _ hb => stq_o hb) dX8_init_6 ?_
  exact cx_vret C hQ (by omega) (by omega) hw dX8_init_9
-- ('BinderPress', 'signOf', '(I)LBinderPress$Term;')
def wc_X0_signOf (X : cX) (b : Nat) (l0 : Int) (μ : CM) (Q : Option Nat → CM → Prop) : Prop := 1 ≤ b ∧ ∀ a2, tg μ a2 = 0 → wc_X0_textOf X l0 (alc μ a2 7 0) (fun r5 μ6 => wc_X8_init X a2 r5 μ6 (fun μ8 => Q (some a2) μ8))
set_option maxHeartbeats 4000000 in
theorem sc_X0_signOf (l : Launch) (X : cX) (sz : Nat) (Q : Option Nat → CM → Prop) (b : Nat) (l0 : Int) (μ : CM) (hw : wc_X0_signOf X b l0 μ Q) : Met l yX0_signOf (ws_ yX0_signOf cX0_signOf 1 (some (.object "BinderPress$Term"))) ({ frames := 3, cells := b, slots := 5 * b, locals := 71 }) (cPc X (([aI l0] : List AV).map toV) μ sz) (cQr X μ sz Q) b (5 * b) (cA X μ sz) := by
  refine cx_met2 (rm := ({ frames := 3, cells := b, slots := 5 * b, locals := 71 })) (As := [aI l0]) (L0 := [(0, aI l0)]) (by decide) rfl (Nat.le_of_ble_eq_true rfl) rfl ?_
  intro Z C hK hsz hR hl0 hin hQ
  subst hsz
  have C : gC Z cX0_signOf 1 RX0 (some (.object "BinderPress$Term")) 3 71 := C
  have hQ : zz_q Z = MQ (zz_b Z) (cQr X μ (zz_s Z).heap.size Q) (zz_a Z) (zz_s Z) (zz_R Z).cells (zz_R Z).slots (cA X μ (zz_s Z).heap.size) := by rw [hR]; exact hQ
  have hb : 0 + b ≤ (zz_R Z).cells ∧ 0 + 5 * b ≤ (zz_R Z).slots := by rw [hR]; exact ⟨by dsimp only; omega, by dsimp only; omega⟩
  unfold wc_X0_signOf at hw
  obtain ⟨hu1, hw⟩ := hw
  refine cx_new (fs := fun a => coF_6 (alc μ a 7 0) a) C hK 6 7 rfl in_X8 tyX8_ok q402 q403 q95 (by decide) (fun a => cdE_6 alc_t) (cxd_6 _) (by omega) (by omega) dX0_signOf_0 (fun a2 hf3 => ?_)
  have hw := hw a2 hf3
  obtain hb : (0 + 1) + (b - 1) ≤ (zz_R Z).cells ∧ (0 + 1) + 5 * (b - 1) ≤ (zz_R Z).slots := ⟨by omega, by omega⟩
  have ht4 : tg (alc μ a2 7 0) a2 = 7 := alc_t
  refine hx_dup C dX0_signOf_3 rfl ?_
  refine hx_iload_n C dX0_signOf_4 0 rfl rfl ?_
  refine fun H locs hI ls hl => cx_rr (S := [aR (some a2), aR (some a2)]) hI hl (fun _ h => h) (cr_S (As := [toV (aI l0)]) (rest := [toV (aR (some a2)), toV (aR (some a2))]) C hK hI hl 1 (sc_X0_textOf _ X H.size _ _ _ hw) (lw_S q404 q261 q84 q262) (by decide +kernel) ⟨rfl, rfl, Nat.le_of_ble_eq_true rfl, Nat.le_of_ble_eq_true rfl⟩ (av_W [aR (some a2), aR (some a2)] 8 (Nat.le_of_ble_eq_true rfl)) dX0_signOf_5 rfl rfl ⟨by omega, by omega⟩) (fun r5 μ6 hw => ?_)
  refine fun H locs hI ls hl => cx_rv (S := [aR (some a2)]) hI hl (fun _ h => h) (cr_I (a := a2) (As := [toV (aR r5)]) (rest := [toV (aR (some a2))]) C hK hI hl 1 (sc_X8_init _ X H.size _ _ _ _ hw) q405 q406 q95 q407 rfl (by decide +kernel) ⟨rfl, rfl, Nat.le_of_ble_eq_true rfl, Nat.le_of_ble_eq_true rfl⟩ (av_W [aR (some a2)] 8 (Nat.le_of_ble_eq_true rfl)) dX0_signOf_8 rfl rfl ⟨by omega, by omega⟩) (fun μ8 hw => ?_)
  exact cx_aret C hQ (by omega) (by omega) (Or.inl ⟨_, rfl⟩) hw dX0_signOf_11
-- ('BinderPress$Put', '<init>', '(LBinderPress$Term;LBinderPress$Term;)V')
def wc_X9_init (X : cX) (l0 : Nat) (l1 : Option Nat) (l2 : Option Nat) (μ : CM) (Q : CM → Prop) : Prop := wc_X5_init X l0 μ (fun μ2 => (tg μ2 l0 = 8 ∧ ∃ a4, l1 = some a4 ∧ wr_V_size X 130 a4 (poR (poR μ2 l0 0 (some a4)) l0 1 l2) (fun r6 μ7 => (∃ a8, l2 = some a8 ∧ wr_V_size X 130 a8 μ7 (fun r10 μ11 => R32 ((r6 + r10) + 1) ∧ tg μ11 l0 = 8 ∧ wr_V_free X 130 a4 (poI μ11 l0 2 (if ((r6 + r10) + 1) < 99999 then ((r6 + r10) + 1) else 99999)) (fun r14 μ15 => wr_V_free X 130 a8 μ15 (fun r16 μ17 => tg μ17 l0 = 8 ∧ Q (poI μ17 l0 3 (io_or r14 r16)))))))))
set_option maxHeartbeats 4000000 in
theorem sc_X9_init (l : Launch) (X : cX) (sz : Nat) (Q : CM → Prop) (l0 : Nat) (l1 : Option Nat) (l2 : Option Nat) (μ : CM) (hw : wc_X9_init X l0 l1 l2 μ Q) : Met l yX9_init (ws_ yX9_init cX9_init 3 none) ({ frames := 131, cells := 0, slots := 0, locals := 2620 }) (cPc X (([aR (some l0), aR l1, aR l2] : List AV).map toV) μ sz) (cQv X μ sz Q) 0 (0) (cA X μ sz) := by
  refine cx_met2 (rm := ({ frames := 131, cells := 0, slots := 0, locals := 2620 })) (As := [aR (some l0), aR l1, aR l2]) (L0 := [(0, aR (some l0)), (1, aR l1), (2, aR l2)]) (by decide) rfl (Nat.le_of_ble_eq_true rfl) rfl ?_
  intro Z C hK hsz hR hl0 hin hQ
  subst hsz
  have C : gC Z cX9_init 3 RX9 none 131 2620 := C
  have hQ : zz_q Z = MQ (zz_b Z) (cQv X μ (zz_s Z).heap.size Q) (zz_a Z) (zz_s Z) (zz_R Z).cells (zz_R Z).slots (cA X μ (zz_s Z).heap.size) := by rw [hR]; exact hQ
  unfold wc_X9_init at hw
  refine hx_aload_n C dX9_init_0 0 rfl rfl ?_
  refine fun H locs hI ls hl => cx_rv (S := []) hI hl (fun _ h => h) (cr_IN (a := l0) (As := []) (rest := []) C hK hI hl 0 (sc_X5_init _ X H.size _ _ _ hw) (List.mem_of_getElem? (i := 62) rfl) q372 q92 q373 rfl (by decide +kernel) ⟨rfl, rfl, Nat.le_of_ble_eq_true rfl, Nat.le_of_ble_eq_true rfl⟩ (av_W [] 8 (Nat.le_of_ble_eq_true rfl)) dX9_init_1 rfl rfl ⟨by omega, by omega⟩) (fun μ2 hw => ?_)
  refine hx_aload_n C dX9_init_4 0 rfl rfl ?_
  refine hx_aload_n C dX9_init_5 1 rfl rfl ?_
  obtain ⟨ht3, hw⟩ := hw
  refine cx_putF (μ := μ2) (μ' := (poR μ2 l0 0 l1)) C hK hin 7 0 rfl in_X9 tyX9_ok nmX9 (by decide) q459 rfl rfl rfl (cdE_7 ht3) (Nat.le_of_ble_eq_true rfl) (cz_r (ty := tyX9 0) rfl l1) (cset_7_0 μ2 l0 l1) (cdE_7 ht3) rfl rfl rfl (fun _ _ => rfl) (fun _ hb => stq_o hb) dX9_init_6 ?_
  refine hx_aload_n C dX9_init_9 0 rfl rfl ?_
  refine hx_aload_n C dX9_init_10 2 rfl rfl ?_
  refine cx_putF (μ := (poR μ2 l0 0 l1)) (μ' := (poR (poR μ2 l0 0 l1) l0 1 l2)) C hK hin 7 1 rfl in_X9 tyX9_ok nmX9 (by decide) q462 rfl rfl rfl (cdE_7 ht3) (Nat.le_of_ble_eq_true rfl) (cz_r (ty := tyX9 1) rfl l2) (cset_7_1 (poR μ2 l0 0 l1) l0 l2) (cdE_7 ht3) rfl rfl rfl (fun _ _ => rfl) (fun _ hb => stq_o hb) dX9_init_11 ?_
  refine hx_aload_n C dX9_init_14 0 rfl rfl ?_
  refine hx_ldc C 99999 q425 (by decide) dX9_init_15 ?_
  refine hx_aload_n C dX9_init_17 1 rfl rfl ?_
  obtain ⟨a4, ha5, hw⟩ := hw
  rw [ha5]
  refine fun H locs hI ls hl => cx_ri (S := [aI 99999, aR (some l0)]) hI hl (fun _ h => h) (dv_size (rest := [toV (aI 99999), toV (aR (some l0))]) C hK hI hl (rr_V_size _ X 130) hw (by omega) (by omega) (va_Nw.use rfl (hK.1.2.2.1 _ (List.mem_of_getElem? (i := 70) rfl))) (av_W [aI 99999, aR (some l0)] 8 (Nat.le_of_ble_eq_true rfl)) dX9_init_18 rfl rfl ⟨by omega, by omega⟩) (fun r6 μ7 hw => ?_)
  refine hx_aload_n C dX9_init_21 2 rfl rfl ?_
  obtain ⟨a8, ha9, hw⟩ := hw
  rw [ha9]
  refine fun H locs hI ls hl => cx_ri (S := [aI r6, aI 99999, aR (some l0)]) hI hl (fun _ h => h) (dv_size (rest := [toV (aI r6), toV (aI 99999), toV (aR (some l0))]) C hK hI hl (rr_V_size _ X 130) hw (by omega) (by omega) (va_Nw.use rfl (hK.1.2.2.1 _ (List.mem_of_getElem? (i := 70) rfl))) (av_W [aI r6, aI 99999, aR (some l0)] 8 (Nat.le_of_ble_eq_true rfl)) dX9_init_22 rfl rfl ⟨by omega, by omega⟩) (fun r10 μ11 hw => ?_)
  refine hx_iadd C dX9_init_25 ?_
  refine hx_iconst C dX9_init_26 ?_
  refine hx_iadd C dX9_init_27 ?_
  obtain ⟨hr12, hw⟩ := hw
  refine cx_mmin (S := [aR (some l0)]) C q440 q441 q97 q442 (by omega) (by simp [toV_cat, avc]; try omega) (by omega) (by omega) (by decide) hr12 dX9_init_28 ?_
  obtain ⟨ht13, hw⟩ := hw
  refine cx_putF (μ := μ11) (μ' := (poI μ11 l0 2 (if ((r6 + r10) + 1) < 99999 then ((r6 + r10) + 1) else 99999))) C hK hin 7 2 rfl in_X9 tyX9_ok nmX9 (by decide) q465 rfl rfl rfl (cdE_7 ht13) (Nat.le_of_ble_eq_true rfl) ⟨rfl, rfl⟩ (cset_7_2 μ11 l0 (if ((r6 + r10) + 1) < 99999 then ((r6 + r10) + 1) else 99999)) (cdE_7 ht13) rfl rfl rfl (fun _ hb => st_o hb) (fun _ _ => rfl) dX9_init_31 ?_
  refine hx_aload_n C dX9_init_34 0 rfl rfl ?_
  refine hx_aload_n C dX9_init_35 1 rfl rfl ?_
  refine fun H locs hI ls hl => cx_ri (S := [aR (some l0)]) hI hl (fun _ h => h) (dv_free (rest := [toV (aR (some l0))]) C hK hI hl (rr_V_free _ X 130) hw (by omega) (by omega) (C.w _ q443) (av_W [aR (some l0)] 8 (Nat.le_of_ble_eq_true rfl)) dX9_init_36 rfl rfl ⟨by omega, by omega⟩) (fun r14 μ15 hw => ?_)
  refine hx_aload_n C dX9_init_39 2 rfl rfl ?_
  refine fun H locs hI ls hl => cx_ri (S := [aI r14, aR (some l0)]) hI hl (fun _ h => h) (dv_free (rest := [toV (aI r14), toV (aR (some l0))]) C hK hI hl (rr_V_free _ X 130) hw (by omega) (by omega) (C.w _ q443) (av_W [aI r14, aR (some l0)] 8 (Nat.le_of_ble_eq_true rfl)) dX9_init_40 rfl rfl ⟨by omega, by omega⟩) (fun r16 μ17 hw => ?_)
  refine hx_ior C dX9_init_43 ?_
  obtain ⟨ht18, hw⟩ := hw
  refine cx_putF (μ := μ17) (μ' := (poI μ17 l0 3 (io_or r14 r16))) C hK hin 7 3 rfl in_X9 tyX9_ok nmX9 (by decide) q466 rfl rfl rfl (cdE_7 ht18) (Nat.le_of_ble_eq_true rfl) ⟨rfl, rfl⟩ (cset_7_3 μ17 l0 (io_or r14 r16)) (cdE_7 ht18) rfl rfl rfl (fun _ hb => st_o hb) (fun _ _ => rfl) dX9_init_44 ?_
  exact cx_vret C hQ (by omega) (by omega) hw dX9_init_47
-- ('BinderPress$Name', 'out', '(I)LBinderPress$Term;')
def wc_X7_out_29 (X : cX) (Q : Option Nat → CM → Prop) (s0 : Option Nat) (b : Nat) (μ : CM) : Prop := Q s0 μ
set_option maxHeartbeats 4000000 in
theorem sc_X7_out_29 {Z : zz} {X : cX} {μ0 : CM} {Q : Option Nat → CM → Prop} (C : gC Z cX7_out 2 RX7 (some (.object "BinderPress$Term")) 132 2642) (hK : cCt Z X μ0) (hQ : zz_q Z = MQ (zz_b Z) (cQr X μ0 (zz_s Z).heap.size Q) (zz_a Z) (zz_s Z) (zz_R Z).cells (zz_R Z).slots (cA X μ0 (zz_s Z).heap.size))  : ∀ s0 b μ, wc_X7_out_29 X Q s0 b μ → ∀ kk nn, (kk + b ≤ (zz_R Z).cells ∧ nn + 5 * b ≤ (zz_R Z).slots) → hG Z 2 (cI Z X μ0 μ) kk nn 29 [] [aR s0] := by
  intro s0 b μ hw kk nn hb
  unfold wc_X7_out_29 at hw
  exact cx_aret C hQ (by omega) (by omega) (Or.inl ⟨_, rfl⟩) hw dX7_out_29
def wc_X7_out (X : cX) (b : Nat) (l0 : Nat) (l1 : Int) (μ : CM) (Q : Option Nat → CM → Prop) : Prop := tg μ l0 = 6 ∧ R32 l1 ∧ R32 (oI μ l0 0) ∧ ((¬ l1 = (oI μ l0 0) → (1 ≤ b ∧ ∀ a5, tg μ a5 = 0 → ∃ b9, b9 ≤ (b - 1) ∧ wc_X0_signOf X b9 75 (alc μ a5 8 0) (fun r11 μ12 => wc_X9_init X a5 r11 (some l0) μ12 (fun μ14 => wc_X7_out_29 X   Q (some a5) ((b - 1) - b9) μ14)))) ∧ (l1 = (oI μ l0 0) → (∃ b15, b15 ≤ b ∧ wc_X0_signOf X b15 73 μ (fun r17 μ18 => wc_X7_out_29 X   Q r17 (b - b15) μ18))))
set_option maxHeartbeats 4000000 in
theorem sc_X7_out (l : Launch) (X : cX) (sz : Nat) (Q : Option Nat → CM → Prop) (b : Nat) (l0 : Nat) (l1 : Int) (μ : CM) (hw : wc_X7_out X b l0 l1 μ Q) : Met l yX7_out (ws_ yX7_out cX7_out 2 (some (.object "BinderPress$Term"))) ({ frames := 132, cells := b, slots := 5 * b, locals := 2642 }) (cPc X (([aR (some l0), aI l1] : List AV).map toV) μ sz) (cQr X μ sz Q) b (5 * b) (cA X μ sz) := by
  refine cx_met2 (rm := ({ frames := 132, cells := b, slots := 5 * b, locals := 2642 })) (As := [aR (some l0), aI l1]) (L0 := [(0, aR (some l0)), (1, aI l1)]) (by decide) rfl (Nat.le_of_ble_eq_true rfl) rfl ?_
  intro Z C hK hsz hR hl0 hin hQ
  subst hsz
  have C : gC Z cX7_out 2 RX7 (some (.object "BinderPress$Term")) 132 2642 := C
  have hQ : zz_q Z = MQ (zz_b Z) (cQr X μ (zz_s Z).heap.size Q) (zz_a Z) (zz_s Z) (zz_R Z).cells (zz_R Z).slots (cA X μ (zz_s Z).heap.size) := by rw [hR]; exact hQ
  have hb : 0 + b ≤ (zz_R Z).cells ∧ 0 + 5 * b ≤ (zz_R Z).slots := by rw [hR]; exact ⟨by dsimp only; omega, by dsimp only; omega⟩
  unfold wc_X7_out at hw
  refine hx_iload_n C dX7_out_0 1 rfl rfl ?_
  refine hx_aload_n C dX7_out_1 0 rfl rfl ?_
  obtain ⟨ht1, hw⟩ := hw
  refine cx_get (μ := μ) (v := aI (oI μ l0 0)) C hK 5 0 rfl in_X7 (by decide) q393 rfl (cdE_5 ht1) rfl dX7_out_2 ?_
  obtain ⟨hr2, hw⟩ := hw
  obtain ⟨hr3, hw⟩ := hw
  refine hx_icmp_ne (tgt := 16) C dX7_out_5 (by decide) hr2 hr3 (fun h => ?_) (fun h => ?_)
  · have hw := hw.1 h
    obtain ⟨hu4, hw⟩ := hw
    refine cx_new (fs := fun a => coF_7 (alc μ a 8 0) a) C hK 7 8 rfl in_X9 tyX9_ok q539 q420 q96 (by decide) (fun a => cdE_7 alc_t) (cxd_7 _) (by omega) (by omega) dX7_out_16 (fun a5 hf6 => ?_)
    have hw := hw a5 hf6
    obtain hb : (0 + 1) + (b - 1) ≤ (zz_R Z).cells ∧ (0 + 5) + 5 * (b - 1) ≤ (zz_R Z).slots := ⟨by omega, by omega⟩
    have ht7 := alc_kp (t := 8) (m := 0) hf6 ht1 (by decide)
    have ht8 : tg (alc μ a5 8 0) a5 = 8 := alc_t
    refine hx_dup C dX7_out_19 rfl ?_
    refine hx_bipush C dX7_out_20 (by decide) ?_
    obtain ⟨b9, hu10, hw⟩ := hw
    refine fun H locs hI ls hl => cx_rr (S := [aR (some a5), aR (some a5)]) hI hl (fun _ h => h) (cr_SN (As := [toV (aI 75)]) (rest := [toV (aR (some a5)), toV (aR (some a5))]) C hK hI hl 1 (sc_X0_signOf _ X H.size _ b9 _ _ hw) (List.mem_of_getElem? (i := 55) rfl) q400 q84 q401 (by decide +kernel) ⟨rfl, rfl, Nat.le_of_ble_eq_true rfl, Nat.le_of_ble_eq_true rfl⟩ (av_W [aR (some a5), aR (some a5)] 8 (Nat.le_of_ble_eq_true rfl)) dX7_out_22 rfl rfl ⟨by omega, by omega⟩) (fun r11 μ12 hw => ?_)
    obtain hb : ((0 + 1) + b9) + ((b - 1) - b9) ≤ (zz_R Z).cells ∧ ((0 + 5) + 5 * b9) + 5 * ((b - 1) - b9) ≤ (zz_R Z).slots := ⟨by omega, by omega⟩
    refine hx_aload_n C dX7_out_25 0 rfl rfl ?_
    refine fun H locs hI ls hl => cx_rv (S := [aR (some a5)]) hI hl (fun _ h => h) (cr_I (a := a5) (As := [toV (aR r11), toV (aR (some l0))]) (rest := [toV (aR (some a5))]) C hK hI hl 2 (sc_X9_init _ X H.size _ _ _ _ _ hw) q540 q422 q96 q423 rfl (by decide +kernel) ⟨rfl, rfl, Nat.le_of_ble_eq_true rfl, Nat.le_of_ble_eq_true rfl⟩ (av_W [aR (some a5)] 8 (Nat.le_of_ble_eq_true rfl)) dX7_out_26 rfl rfl ⟨by omega, by omega⟩) (fun μ14 hw => ?_)
    refine hx_L [] rfl ?_
    exact sc_X7_out_29 C hK hQ  _ _ _ hw _ _ hb
  · have hw := hw.2 h
    refine hx_bipush C dX7_out_8 (by decide) ?_
    obtain ⟨b15, hu16, hw⟩ := hw
    refine fun H locs hI ls hl => cx_rr (S := []) hI hl (fun _ h => h) (cr_SN (As := [toV (aI 73)]) (rest := []) C hK hI hl 1 (sc_X0_signOf _ X H.size _ b15 _ _ hw) (List.mem_of_getElem? (i := 55) rfl) q400 q84 q401 (by decide +kernel) ⟨rfl, rfl, Nat.le_of_ble_eq_true rfl, Nat.le_of_ble_eq_true rfl⟩ (av_W [] 8 (Nat.le_of_ble_eq_true rfl)) dX7_out_10 rfl rfl ⟨by omega, by omega⟩) (fun r17 μ18 hw => ?_)
    obtain hb : (0 + b15) + (b - b15) ≤ (zz_R Z).cells ∧ (0 + 5 * b15) + 5 * (b - b15) ≤ (zz_R Z).slots := ⟨by omega, by omega⟩
    refine hx_goto (tgt := 29) C dX7_out_13 (by decide) ?_
    refine hx_L [] rfl ?_
    exact sc_X7_out_29 C hK hQ  _ _ _ hw _ _ hb
