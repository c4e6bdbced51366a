/-! walks of the component (printed by gen_comp) -/
set_option maxRecDepth 100000
-- ('BinderPress$Kinds', 'write', '(LBinderPress$Kind;Ljava/lang/StringBuilder;)V')
def rmet_X11_write (l : Launch) (X : cX) (fr lo : Nat) (rc : Nat → Nat → Option Nat → Option Nat → CM → (CM → Prop) → (Nat → CM → Prop) → Prop) : Prop := ∀ (b : Nat) (l0 : Nat) (l1 : Option Nat) (l2 : Option Nat) (μ : CM) (sz : Nat) (Q : CM → Prop) (XQ : Nat → CM → Prop), rc b l0 l1 l2 μ Q XQ → ∃ rm, crm rm b (5 * b) fr lo 5 ∧ vy_Met l yX11_write (ws_ yX11_write cX11_write 5 none) rm (cPc X (([aR (some l0), aR l1, aR l2] : List AV).map toV) μ sz) (cQv X μ sz Q) (cXQ X μ sz "BinderPress$TooLong" XQ) b (5 * b) (cA X μ sz)
def wc_X11_write_98 (X : cX) (rc : Nat → Nat → Option Nat → Option Nat → CM → (CM → Prop) → (Nat → CM → Prop) → Prop) (Q : CM → Prop) (XQ : Nat → CM → Prop) (l2 : Option Nat) (b : Nat) (μ : CM) : Prop := (∃ a1, l2 = some a1 ∧ tg μ a1 = 12 ∧ wc_J9_length X a1 μ (fun r3 μ4 => R32 r3 ∧ ((r3 ≤ 200 → Q μ4) ∧ (200 < r3 → 2 ≤ b ∧ ∀ a8, tg μ4 a8 = 0 → wc_X13_init X a8 (alc μ4 a8 11 0) (fun μ12 => tg μ12 a8 = 11 ∧ XQ a8 μ12)))))
set_option maxHeartbeats 4000000 in
theorem sc_X11_write_98 {Z : zz} {X : cX} {μ0 : CM} {Q : CM → Prop} {XQ : Nat → CM → Prop} {rc : Nat → Nat → Option Nat → Option Nat → CM → (CM → Prop) → (Nat → CM → Prop) → Prop} {fr lo : Nat} (hA : 6 ≤ fr) (hB : 143 ≤ lo) (C : gC Z cX11_write 5 RX11 none (fr + 0) (lo + 0)) (hK : cCt Z X μ0) (hrc : rmet_X11_write (zz_l Z) X fr lo rc) (hX : ∀ x ∈ (zz_c Z).exceptionTable.toList, False) (hQ : zz_q Z = vy_MQ (zz_b Z) (cQv X μ0 (zz_s Z).heap.size Q) (cXQ X μ0 (zz_s Z).heap.size "BinderPress$TooLong" XQ) (zz_a Z) (zz_s Z) (zz_R Z).cells (zz_R Z).slots (cA X μ0 (zz_s Z).heap.size))  : ∀ l2 b μ, wc_X11_write_98 X rc Q XQ l2 b μ → ∀ kk nn, (kk + b ≤ (zz_R Z).cells ∧ nn + 5 * b ≤ (zz_R Z).slots) → hG Z 5 (cI Z X μ0 μ) kk nn 98 [(2, aR l2)] [] := by
  intro l2 b μ hw kk nn hb
  unfold wc_X11_write_98 at hw
  refine hx_aload_n C dX11_write_98 0 rfl rfl ?_
  obtain ⟨a1, ha2, hw⟩ := hw
  rw [ha2]
  obtain ⟨ht5, hw⟩ := hw
  refine fun H locs hI ls hl => cx_ri (S := []) hI hl (fun _ h => h) (cr_V (Cn := RJ9) (As := []) (rest := []) C hK hI hl 0 (cv_dyn hK hI (ci := 11) rfl (Or.inr (cdE_11 ht5))) (sc_J9_length _ X H.size _ _ _ hw) (lw_V q1278 q1083 q1819 q105 q1084) (by decide +kernel) ⟨rfl, rfl, by (dsimp only; omega), by (dsimp only; omega)⟩ (av_W [] 8 (Nat.le_of_ble_eq_true rfl)) dX11_write_99 rfl rfl ⟨by omega, by omega⟩) (fun r3 μ4 hw => ?_)
  refine hx_sipush C dX11_write_102 (by decide) ?_
  obtain ⟨hr6, hw⟩ := hw
  refine hx_icmp_le (tgt := 116) C dX11_write_105 (by decide) hr6 (by decide) (fun h => ?_) (fun h => ?_)
  · have hw := hw.1 h
    exact cy_vret C hQ (by omega) (by omega) hw dX11_write_116
  · have hw := hw.2 h
    obtain ⟨hu7, hw⟩ := hw
    refine cx_new (fs := fun a => coF_10 (alc μ4 a 11 0) a) C hK 10 11 rfl in_X13 tyX13_ok q1258 q1259 q109 (by decide) (fun a => cdE_10 alc_t) (cxd_10 _) (by omega) (by omega) dX11_write_108 (fun a8 hf9 => ?_)
    have hw := hw a8 hf9
    obtain hb : (kk + 1) + (b - 2) ≤ (zz_R Z).cells ∧ (nn + 6) + 5 * (b - 2) ≤ (zz_R Z).slots := ⟨by omega, by omega⟩
    have ht10 : tg (alc μ4 a8 11 0) a8 = 11 := alc_t
    refine hx_dup C dX11_write_111 rfl ?_
    refine fun H locs hI ls hl => cx_rv (S := [aR (some a8)]) hI hl (fun _ h => h) (cr_I (a := a8) (As := []) (rest := [toV (aR (some a8))]) C hK hI hl 0 (sc_X13_init _ X H.size _ _ _ hw) q1267 q1268 q109 q1269 rfl (by decide +kernel) ⟨rfl, rfl, by (dsimp only; omega), by (dsimp only; omega)⟩ (av_W [aR (some a8)] 8 (Nat.le_of_ble_eq_true rfl)) dX11_write_112 rfl rfl ⟨by omega, by omega⟩) (fun μ12 hw => ?_)
    obtain ⟨ht13, hw⟩ := hw
    exact cy_athrow C hK (ci := 10) rfl (cdE_10 ht13) dX11_write_115 (cy_out C hX hQ (by omega) (by omega) hw)
def wc_X11_write_85 (X : cX) (rc : Nat → Nat → Option Nat → Option Nat → CM → (CM → Prop) → (Nat → CM → Prop) → Prop) (Q : CM → Prop) (XQ : Nat → CM → Prop) (l0 : Nat) (l2 : Option Nat) (l3 : Option Nat) (s0 : Option Nat) (s1 : Option Nat) (b : Nat) (μ : CM) : Prop := (∃ a1, s0 = some a1 ∧ ∃ b3, b3 ≤ b ∧ tg μ a1 = 12 ∧ wc_J9_append_2 X b3 a1 s1 μ (fun r5 μ6 => (∃ a8, l3 = some a8 ∧ tg μ6 a8 = 10 ∧ ∃ b11, b11 ≤ (b - b3) ∧ tg μ6 l0 = 9 ∧ rc b11 l0 (oR μ6 a8 2) l2 μ6 (fun μ14 => wc_X11_write_98 X rc  Q XQ l2 ((b - b3) - b11) μ14) XQ)))
set_option maxHeartbeats 4000000 in
theorem sc_X11_write_85 {Z : zz} {X : cX} {μ0 : CM} {Q : CM → Prop} {XQ : Nat → CM → Prop} {rc : Nat → Nat → Option Nat → Option Nat → CM → (CM → Prop) → (Nat → CM → Prop) → Prop} {fr lo : Nat} (hA : 6 ≤ fr) (hB : 143 ≤ lo) (C : gC Z cX11_write 5 RX11 none (fr + 0) (lo + 0)) (hK : cCt Z X μ0) (hrc : rmet_X11_write (zz_l Z) X fr lo rc) (hX : ∀ x ∈ (zz_c Z).exceptionTable.toList, False) (hQ : zz_q Z = vy_MQ (zz_b Z) (cQv X μ0 (zz_s Z).heap.size Q) (cXQ X μ0 (zz_s Z).heap.size "BinderPress$TooLong" XQ) (zz_a Z) (zz_s Z) (zz_R Z).cells (zz_R Z).slots (cA X μ0 (zz_s Z).heap.size))  : ∀ l0 l2 l3 s0 s1 b μ, wc_X11_write_85 X rc Q XQ l0 l2 l3 s0 s1 b μ → ∀ kk nn, (kk + b ≤ (zz_R Z).cells ∧ nn + 5 * b ≤ (zz_R Z).slots) → hG Z 5 (cI Z X μ0 μ) kk nn 85 [(0, aR (some l0)), (2, aR l2), (3, aR l3)] [aR s1, aR s0] := by
  intro l0 l2 l3 s0 s1 b μ hw kk nn hb
  unfold wc_X11_write_85 at hw
  obtain ⟨a1, ha2, hw⟩ := hw
  rw [ha2]
  obtain ⟨b3, hu4, hw⟩ := hw
  obtain ⟨ht7, hw⟩ := hw
  refine fun H locs hI ls hl => cx_rr (S := []) hI hl (fun _ h => h) (cr_V (Cn := RJ9) (As := [toV (aR s1)]) (rest := []) C hK hI hl 1 (cv_dyn hK hI (ci := 11) rfl (Or.inr (cdE_11 ht7))) (sc_J9_append_2 _ X H.size _ b3 _ _ _ hw) (lw_V q1275 q1003 q1004 q105 q1005) (by decide +kernel) ⟨rfl, rfl, by (dsimp only; omega), by (dsimp only; omega)⟩ (av_W [] 8 (Nat.le_of_ble_eq_true rfl)) dX11_write_85 rfl rfl ⟨by omega, by omega⟩) (fun r5 μ6 hw => ?_)
  obtain hb : (kk + b3) + (b - b3) ≤ (zz_R Z).cells ∧ (nn + 5 * b3) + 5 * (b - b3) ≤ (zz_R Z).slots := ⟨by omega, by omega⟩
  refine hx_pop C dX11_write_88 rfl ?_
  refine hx_aload_n C dX11_write_89 0 rfl rfl ?_
  refine hx_aload_n C dX11_write_90 2 rfl rfl ?_
  obtain ⟨a8, ha9, hw⟩ := hw
  rw [ha9]
  obtain ⟨ht10, hw⟩ := hw
  refine cx_getN (μ := μ6) (v := aR (oR μ6 a8 2)) C hK 9 2 rfl in_X12 (by decide) (List.mem_of_getElem? (i := 35) rfl) rfl (cdE_9 ht10) rfl dX11_write_91 ?_
  refine hx_aload_n C dX11_write_94 1 rfl rfl ?_
  obtain ⟨b11, hu12, hw⟩ := hw
  obtain ⟨ht15, hw⟩ := hw
  refine fun H locs hI ls hl => cy_rv (S := []) hI hl (fun _ h => h) (dy_V (Cn := RX11) (As := [toV (aR (oR μ6 a8 2)), toV (aR l2)]) (rest := []) C hK hI hl 2 (cv_dyn hK hI (ci := 8) rfl (Or.inr (cdE_8 ht15))) (hrc b11 _ _ _ _ H.size _ _ hw) (by omega) (by omega) (lw_V q1249 q1251 qs30 q107 q1252) (by decide +kernel) (av_W [] 8 (Nat.le_of_ble_eq_true rfl)) dX11_write_95 rfl rfl ⟨by omega, by omega⟩) (fun q9 μ14x hx => cy_out C hX hQ (by omega) (by omega) hx) (fun μ14 hw => ?_)
  obtain hb : ((kk + b3) + b11) + ((b - b3) - b11) ≤ (zz_R Z).cells ∧ ((nn + 5 * b3) + 5 * b11) + 5 * ((b - b3) - b11) ≤ (zz_R Z).slots := ⟨by omega, by omega⟩
  refine hx_L [1] rfl ?_
  exact sc_X11_write_98 hA hB C hK hrc hX hQ  _ _ _ hw _ _ hb
def wc_X11_write_59 (X : cX) (rc : Nat → Nat → Option Nat → Option Nat → CM → (CM → Prop) → (Nat → CM → Prop) → Prop) (Q : CM → Prop) (XQ : Nat → CM → Prop) (l0 : Nat) (l2 : Option Nat) (l3 : Option Nat) (l4 : Int) (s0 : Option Nat) (s1 : Option Nat) (b : Nat) (μ : CM) : Prop := (∃ a1, s0 = some a1 ∧ ∃ b3, b3 ≤ b ∧ tg μ a1 = 12 ∧ wc_J9_append_2 X b3 a1 s1 μ (fun r5 μ6 => (∃ a8, l3 = some a8 ∧ tg μ6 a8 = 10 ∧ ∃ b11, b11 ≤ (b - b3) ∧ tg μ6 l0 = 9 ∧ rc b11 l0 (oR μ6 a8 1) l2 μ6 (fun μ14 => R32 l4 ∧ ((l4 = 0 → wc_X11_write_85 X rc  Q XQ l0 l2 (some a8) l2 (some (cX_s X 11)) ((b - b3) - b11) μ14) ∧ (¬ l4 = 0 → wc_X11_write_85 X rc  Q XQ l0 l2 (some a8) l2 (some (cX_s X 10)) ((b - b3) - b11) μ14))) XQ)))
set_option maxHeartbeats 4000000 in
theorem sc_X11_write_59 {Z : zz} {X : cX} {μ0 : CM} {Q : CM → Prop} {XQ : Nat → CM → Prop} {rc : Nat → Nat → Option Nat → Option Nat → CM → (CM → Prop) → (Nat → CM → Prop) → Prop} {fr lo : Nat} (hA : 6 ≤ fr) (hB : 143 ≤ lo) (C : gC Z cX11_write 5 RX11 none (fr + 0) (lo + 0)) (hK : cCt Z X μ0) (hrc : rmet_X11_write (zz_l Z) X fr lo rc) (hX : ∀ x ∈ (zz_c Z).exceptionTable.toList, False) (hQ : zz_q Z = vy_MQ (zz_b Z) (cQv X μ0 (zz_s Z).heap.size Q) (cXQ X μ0 (zz_s Z).heap.size "BinderPress$TooLong" XQ) (zz_a Z) (zz_s Z) (zz_R Z).cells (zz_R Z).slots (cA X μ0 (zz_s Z).heap.size))  : ∀ l0 l2 l3 l4 s0 s1 b μ, wc_X11_write_59 X rc Q XQ l0 l2 l3 l4 s0 s1 b μ → ∀ kk nn, (kk + b ≤ (zz_R Z).cells ∧ nn + 5 * b ≤ (zz_R Z).slots) → hG Z 5 (cI Z X μ0 μ) kk nn 59 [(0, aR (some l0)), (2, aR l2), (3, aR l3), (4, aI l4)] [aR s1, aR s0] := by
  intro l0 l2 l3 l4 s0 s1 b μ hw kk nn hb
  unfold wc_X11_write_59 at hw
  obtain ⟨a1, ha2, hw⟩ := hw
  rw [ha2]
  obtain ⟨b3, hu4, hw⟩ := hw
  obtain ⟨ht7, hw⟩ := hw
  refine fun H locs hI ls hl => cx_rr (S := []) hI hl (fun _ h => h) (cr_V (Cn := RJ9) (As := [toV (aR s1)]) (rest := []) C hK hI hl 1 (cv_dyn hK hI (ci := 11) rfl (Or.inr (cdE_11 ht7))) (sc_J9_append_2 _ X H.size _ b3 _ _ _ hw) (lw_V q1275 q1003 q1004 q105 q1005) (by decide +kernel) ⟨rfl, rfl, by (dsimp only; omega), by (dsimp only; omega)⟩ (av_W [] 8 (Nat.le_of_ble_eq_true rfl)) dX11_write_59 rfl rfl ⟨by omega, by omega⟩) (fun r5 μ6 hw => ?_)
  obtain hb : (kk + b3) + (b - b3) ≤ (zz_R Z).cells ∧ (nn + 5 * b3) + 5 * (b - b3) ≤ (zz_R Z).slots := ⟨by omega, by omega⟩
  refine hx_pop C dX11_write_62 rfl ?_
  refine hx_aload_n C dX11_write_63 0 rfl rfl ?_
  refine hx_aload_n C dX11_write_64 2 rfl rfl ?_
  obtain ⟨a8, ha9, hw⟩ := hw
  rw [ha9]
  obtain ⟨ht10, hw⟩ := hw
  refine cx_getN (μ := μ6) (v := aR (oR μ6 a8 1)) C hK 9 1 rfl in_X12 (by decide) (List.mem_of_getElem? (i := 34) rfl) rfl (cdE_9 ht10) rfl dX11_write_65 ?_
  refine hx_aload_n C dX11_write_68 1 rfl rfl ?_
  obtain ⟨b11, hu12, hw⟩ := hw
  obtain ⟨ht15, hw⟩ := hw
  refine fun H locs hI ls hl => cy_rv (S := []) hI hl (fun _ h => h) (dy_V (Cn := RX11) (As := [toV (aR (oR μ6 a8 1)), toV (aR l2)]) (rest := []) C hK hI hl 2 (cv_dyn hK hI (ci := 8) rfl (Or.inr (cdE_8 ht15))) (hrc b11 _ _ _ _ H.size _ _ hw) (by omega) (by omega) (lw_V q1249 q1251 qs30 q107 q1252) (by decide +kernel) (av_W [] 8 (Nat.le_of_ble_eq_true rfl)) dX11_write_69 rfl rfl ⟨by omega, by omega⟩) (fun q9 μ14x hx => cy_out C hX hQ (by omega) (by omega) hx) (fun μ14 hw => ?_)
  obtain hb : ((kk + b3) + b11) + ((b - b3) - b11) ≤ (zz_R Z).cells ∧ ((nn + 5 * b3) + 5 * b11) + 5 * ((b - b3) - b11) ≤ (zz_R Z).slots := ⟨by omega, by omega⟩
  refine hx_aload_n C dX11_write_72 1 rfl rfl ?_
  refine hx_iload C dX11_write_73 3 rfl ?_
  obtain ⟨hr16, hw⟩ := hw
  refine hx_if_eq (tgt := 83) C dX11_write_75 (by decide) hr16 (fun h => ?_) (fun h => ?_)
  · have hw := hw.1 h
    refine cx_ldcS (num := 11) (tx := ">") C hK (List.mem_of_getElem? (i := 20) rfl) dX11_write_83 ?_
    refine hx_L [0, 1, 2] rfl ?_
    exact sc_X11_write_85 hA hB C hK hrc hX hQ  _ _ _ _ _ _ _ hw _ _ hb
  · have hw := hw.2 h
    refine cx_ldcS (num := 10) (tx := ")>") C hK (List.mem_of_getElem? (i := 19) rfl) dX11_write_78 ?_
    refine hx_goto (tgt := 85) C dX11_write_80 (by decide) ?_
    refine hx_L [0, 1, 2] rfl ?_
    exact sc_X11_write_85 hA hB C hK hrc hX hQ  _ _ _ _ _ _ _ hw _ _ hb
def wc_X11_write_44 (X : cX) (rc : Nat → Nat → Option Nat → Option Nat → CM → (CM → Prop) → (Nat → CM → Prop) → Prop) (Q : CM → Prop) (XQ : Nat → CM → Prop) (l0 : Nat) (l2 : Option Nat) (l3 : Option Nat) (s0 : Int) (b : Nat) (μ : CM) : Prop := R32 s0 ∧ ((s0 = 0 → wc_X11_write_59 X rc  Q XQ l0 l2 l3 s0 l2 (some (cX_s X 5)) b μ) ∧ (¬ s0 = 0 → wc_X11_write_59 X rc  Q XQ l0 l2 l3 s0 l2 (some (cX_s X 8)) b μ))
set_option maxHeartbeats 4000000 in
theorem sc_X11_write_44 {Z : zz} {X : cX} {μ0 : CM} {Q : CM → Prop} {XQ : Nat → CM → Prop} {rc : Nat → Nat → Option Nat → Option Nat → CM → (CM → Prop) → (Nat → CM → Prop) → Prop} {fr lo : Nat} (hA : 6 ≤ fr) (hB : 143 ≤ lo) (C : gC Z cX11_write 5 RX11 none (fr + 0) (lo + 0)) (hK : cCt Z X μ0) (hrc : rmet_X11_write (zz_l Z) X fr lo rc) (hX : ∀ x ∈ (zz_c Z).exceptionTable.toList, False) (hQ : zz_q Z = vy_MQ (zz_b Z) (cQv X μ0 (zz_s Z).heap.size Q) (cXQ X μ0 (zz_s Z).heap.size "BinderPress$TooLong" XQ) (zz_a Z) (zz_s Z) (zz_R Z).cells (zz_R Z).slots (cA X μ0 (zz_s Z).heap.size))  : ∀ l0 l2 l3 s0 b μ, wc_X11_write_44 X rc Q XQ l0 l2 l3 s0 b μ → ∀ kk nn, (kk + b ≤ (zz_R Z).cells ∧ nn + 5 * b ≤ (zz_R Z).slots) → hG Z 5 (cI Z X μ0 μ) kk nn 44 [(0, aR (some l0)), (2, aR l2), (3, aR l3)] [aI s0] := by
  intro l0 l2 l3 s0 b μ hw kk nn hb
  unfold wc_X11_write_44 at hw
  refine hx_istore (L' := [(4, aI s0), (0, aR (some l0)), (2, aR l2), (3, aR l3)]) C dX11_write_44 (by decide) rfl ?_
  refine hx_aload_n C dX11_write_46 2 rfl rfl ?_
  refine hx_iload C dX11_write_47 0 rfl ?_
  obtain ⟨hr1, hw⟩ := hw
  refine hx_if_eq (tgt := 57) C dX11_write_49 (by decide) hr1 (fun h => ?_) (fun h => ?_)
  · have hw := hw.1 h
    refine cx_ldcS (num := 5) (tx := "") C hK (List.mem_of_getElem? (i := 17) rfl) dX11_write_57 ?_
    refine hx_L [1, 2, 3, 0] rfl ?_
    exact sc_X11_write_59 hA hB C hK hrc hX hQ  _ _ _ _ _ _ _ _ hw _ _ hb
  · have hw := hw.2 h
    refine cx_ldcS (num := 8) (tx := "(") C hK (List.mem_of_getElem? (i := 18) rfl) dX11_write_52 ?_
    refine hx_goto (tgt := 59) C dX11_write_54 (by decide) ?_
    refine hx_L [1, 2, 3, 0] rfl ?_
    exact sc_X11_write_59 hA hB C hK hrc hX hQ  _ _ _ _ _ _ _ _ hw _ _ hb
def wc_X11_write (X : cX) (rc : Nat → Nat → Option Nat → Option Nat → CM → (CM → Prop) → (Nat → CM → Prop) → Prop) (b : Nat) (l0 : Nat) (l1 : Option Nat) (l2 : Option Nat) (μ : CM) (Q : CM → Prop) (XQ : Nat → CM → Prop) : Prop := (∃ a1, l1 = some a1 ∧ tg μ a1 = 10 ∧ wc_X12_self X a1 μ (fun r3 μ4 => (∃ a6, r3 = some a6 ∧ tg μ4 a6 = 10 ∧ ((¬ (oR μ4 a6 1) = none → (∃ a9, (oR μ4 a6 1) = some a9 ∧ tg μ4 a9 = 10 ∧ wc_X12_self X a9 μ4 (fun r11 μ12 => (∃ a14, r11 = some a14 ∧ tg μ12 a14 = 10 ∧ (((oR μ12 a14 1) = none → wc_X11_write_44 X rc  Q XQ l0 l2 (some a6) 0 b μ12) ∧ (¬ (oR μ12 a14 1) = none → wc_X11_write_44 X rc  Q XQ l0 l2 (some a6) 1 b μ12)))))) ∧ ((oR μ4 a6 1) = none → (∃ b17, b17 ≤ b ∧ tg μ4 l0 = 9 ∧ wc_X11_letterOf X b17 l0 (some a6) μ4 (fun r19 μ20 => ((0 ≤ r19 ∧ r19 < 65536) ∧ ∃ a23, l2 = some a23 ∧ ∃ b25, b25 ≤ (b - b17) ∧ tg μ20 a23 = 12 ∧ wc_J9_append X b25 a23 r19 μ20 (fun r27 μ28 => wc_X11_write_98 X rc  Q XQ (some a23) ((b - b17) - b25) μ28))) XQ))))))
set_option maxHeartbeats 4000000 in
theorem sc_X11_write (l : Launch) (X : cX) (sz : Nat) (Q : CM → Prop) (XQ : Nat → CM → Prop) {rc : Nat → Nat → Option Nat → Option Nat → CM → (CM → Prop) → (Nat → CM → Prop) → Prop} {fr lo : Nat} (hA : 6 ≤ fr) (hB : 143 ≤ lo) (hrc : rmet_X11_write l X fr lo rc) (b : Nat) (l0 : Nat) (l1 : Option Nat) (l2 : Option Nat) (μ : CM) (hw : wc_X11_write X rc b l0 l1 l2 μ Q XQ) : vy_Met l yX11_write (ws_ yX11_write cX11_write 5 none) ({ frames := (fr + 0), cells := b, slots := 5 * b, locals := (lo + 0) }) (cPc X (([aR (some l0), aR l1, aR l2] : List AV).map toV) μ sz) (cQv X μ sz Q) (cXQ X μ sz "BinderPress$TooLong" XQ) b (5 * b) (cA X μ sz) := by
  refine cy_met2 (rm := ({ frames := (fr + 0), cells := b, slots := 5 * b, locals := (lo + 0) })) (As := [aR (some l0), aR l1, aR l2]) (L0 := [(0, aR (some l0)), (1, aR l1), (2, aR l2)]) (by decide) rfl (Nat.le_of_ble_eq_true rfl) rfl ?_
  intro Z C hK hsz hR hl0 hin hX hQ
  subst hsz
  have C : gC Z cX11_write 5 RX11 none (fr + 0) (lo + 0) := C
  rw [← hl0] at hrc
  have hQ : zz_q Z = vy_MQ (zz_b Z) (cQv X μ (zz_s Z).heap.size Q) (cXQ X μ (zz_s Z).heap.size "BinderPress$TooLong" XQ) (zz_a Z) (zz_s Z) (zz_R Z).cells (zz_R Z).slots (cA X μ (zz_s Z).heap.size) := by rw [hR]; exact hQ
  have hb : 0 + b ≤ (zz_R Z).cells ∧ 0 + 5 * b ≤ (zz_R Z).slots := by rw [hR]; exact ⟨by dsimp only; omega, by dsimp only; omega⟩
  unfold wc_X11_write at hw
  refine hx_aload_n C dX11_write_0 1 rfl rfl ?_
  obtain ⟨a1, ha2, hw⟩ := hw
  rw [ha2]
  obtain ⟨ht5, hw⟩ := hw
  refine fun H locs hI ls hl => cx_rr (S := []) hI hl (fun _ h => h) (cr_V (Cn := RX12) (As := []) (rest := []) C hK hI hl 0 (cv_dyn hK hI (ci := 9) rfl (Or.inr (cdE_9 ht5))) (sc_X12_self _ X H.size _ _ _ hw) (lw_V q1253 q1208 q1209 q108 q1210) (by decide +kernel) ⟨rfl, rfl, by (dsimp only; omega), by (dsimp only; omega)⟩ (av_W [] 8 (Nat.le_of_ble_eq_true rfl)) dX11_write_1 rfl rfl ⟨by omega, by omega⟩) (fun r3 μ4 hw => ?_)
  refine hx_astore_n (L' := [(3, aR r3), (0, aR (some l0)), (1, aR (some a1)), (2, aR l2)]) C dX11_write_4 rfl (by decide) rfl ?_
  refine hx_aload_n C dX11_write_5 0 rfl rfl ?_
  obtain ⟨a6, ha7, hw⟩ := hw
  rw [ha7]
  obtain ⟨ht8, hw⟩ := hw
  refine cx_getN (μ := μ4) (v := aR (oR μ4 a6 1)) C hK 9 1 rfl in_X12 (by decide) (List.mem_of_getElem? (i := 34) rfl) rfl (cdE_9 ht8) rfl dX11_write_6 ?_
  refine hx_ifnonnull (tgt := 26) C dX11_write_9 (by decide) (fun h => ?_) (fun h => ?_)
  · have hw := hw.1 h
    refine hx_aload_n C dX11_write_26 0 rfl rfl ?_
    refine cx_getN (μ := μ4) (v := aR (oR μ4 a6 1)) C hK 9 1 rfl in_X12 (by decide) (List.mem_of_getElem? (i := 34) rfl) rfl (cdE_9 ht8) rfl dX11_write_27 ?_
    obtain ⟨a9, ha10, hw⟩ := hw
    rw [ha10]
    obtain ⟨ht13, hw⟩ := hw
    refine fun H locs hI ls hl => cx_rr (S := []) hI hl (fun _ h => h) (cr_V (Cn := RX12) (As := []) (rest := []) C hK hI hl 0 (cv_dyn hK hI (ci := 9) rfl (Or.inr (cdE_9 ht13))) (sc_X12_self _ X H.size _ _ _ hw) (lw_V q1253 q1208 q1209 q108 q1210) (by decide +kernel) ⟨rfl, rfl, by (dsimp only; omega), by (dsimp only; omega)⟩ (av_W [] 8 (Nat.le_of_ble_eq_true rfl)) dX11_write_30 rfl rfl ⟨by omega, by omega⟩) (fun r11 μ12 hw => ?_)
    obtain ⟨a14, ha15, hw⟩ := hw
    rw [ha15]
    obtain ⟨ht16, hw⟩ := hw
    refine cx_getN (μ := μ12) (v := aR (oR μ12 a14 1)) C hK 9 1 rfl in_X12 (by decide) (List.mem_of_getElem? (i := 34) rfl) rfl (cdE_9 ht16) rfl dX11_write_33 ?_
    refine hx_ifnull (tgt := 43) C dX11_write_36 (by decide) (fun h => ?_) (fun h => ?_)
    · have hw := hw.1 h
      refine hx_iconst C dX11_write_43 ?_
      refine hx_L [1, 3, 0] rfl ?_
      exact sc_X11_write_44 hA hB C hK hrc hX hQ  _ _ _ _ _ _ hw _ _ hb
    · have hw := hw.2 h
      refine hx_iconst C dX11_write_39 ?_
      refine hx_goto (tgt := 44) C dX11_write_40 (by decide) ?_
      refine hx_L [1, 3, 0] rfl ?_
      exact sc_X11_write_44 hA hB C hK hrc hX hQ  _ _ _ _ _ _ hw _ _ hb
  · have hw := hw.2 h
    refine hx_aload_n C dX11_write_12 3 rfl rfl ?_
    refine hx_aload_n C dX11_write_13 1 rfl rfl ?_
    refine hx_aload_n C dX11_write_14 0 rfl rfl ?_
    obtain ⟨b17, hu18, hw⟩ := hw
    obtain ⟨ht21, hw⟩ := hw
    refine fun H locs hI ls hl => cy_ri (S := [aR l2]) hI hl (fun _ h => h) (cy_V (Cn := RX11) (As := [toV (aR (some a6))]) (rest := [toV (aR l2)]) C hK hI hl 1 (cv_dyn hK hI (ci := 8) rfl (Or.inr (cdE_8 ht21))) (sc_X11_letterOf _ X H.size _ _ b17 _ _ _ hw) (lw_V q1254 q1256 qs31 q107 q1257) (by decide +kernel) ⟨rfl, rfl, by (dsimp only; omega), by (dsimp only; omega)⟩ (av_W [aR l2] 8 (Nat.le_of_ble_eq_true rfl)) dX11_write_15 rfl rfl ⟨by omega, by omega⟩) (fun q9 μ20x hx => cy_out C hX hQ (by omega) (by omega) hx) (fun r19 μ20 hw => ?_)
    obtain hb : (0 + b17) + (b - b17) ≤ (zz_R Z).cells ∧ (0 + 5 * b17) + 5 * (b - b17) ≤ (zz_R Z).slots := ⟨by omega, by omega⟩
    obtain ⟨hc22, hw⟩ := hw
    refine hx_i2c C dX11_write_18 hc22 ?_
    obtain ⟨a23, ha24, hw⟩ := hw
    rw [ha24]
    obtain ⟨b25, hu26, hw⟩ := hw
    obtain ⟨ht29, hw⟩ := hw
    refine fun H locs hI ls hl => cx_rr (S := []) hI hl (fun _ h => h) (cr_V (Cn := RJ9) (As := [toV (aI r19)]) (rest := []) C hK hI hl 1 (cv_dyn hK hI (ci := 11) rfl (Or.inr (cdE_11 ht29))) (sc_J9_append _ X H.size _ b25 _ _ _ hw) (lw_V q1273 q910 q911 q105 q912) (by decide +kernel) ⟨rfl, rfl, by (dsimp only; omega), by (dsimp only; omega)⟩ (av_W [] 8 (Nat.le_of_ble_eq_true rfl)) dX11_write_19 rfl rfl ⟨by omega, by omega⟩) (fun r27 μ28 hw => ?_)
    obtain hb : ((0 + b17) + b25) + ((b - b17) - b25) ≤ (zz_R Z).cells ∧ ((0 + 5 * b17) + 5 * b25) + 5 * ((b - b17) - b25) ≤ (zz_R Z).slots := ⟨by omega, by omega⟩
    refine hx_pop C dX11_write_22 rfl ?_
    refine hx_goto (tgt := 98) C dX11_write_23 (by decide) ?_
    refine hx_L [3] rfl ?_
    exact sc_X11_write_98 hA hB C hK hrc hX hQ  _ _ _ hw _ _ hb
def wr_X11_write (X : cX) : Nat → Nat → Nat → Option Nat → Option Nat → CM → (CM → Prop) → (Nat → CM → Prop) → Prop
  | 0 => fun _ _ _ _ _ _ _ => False
  | d + 1 => wc_X11_write X (wr_X11_write X d)
set_option maxHeartbeats 4000000 in
theorem rr_X11_write (l : Launch) (X : cX) : ∀ d, rmet_X11_write l X (6 + 1 * d) (143 + 24 * d) (wr_X11_write X d) := by
  intro d
  induction d with
  | zero => intro b l0 l1 l2 μ sz Q XQ h; exact h.elim
  | succ d ih =>
    intro b l0 l1 l2 μ sz Q XQ h
    exact ⟨_, ⟨rfl, rfl, by first | omega | (dsimp only; omega), by first | omega | (dsimp only; omega)⟩, sc_X11_write l X sz Q XQ (by omega) (by omega) ih b l0 l1 l2 μ h⟩
-- ('BinderPress$Kinds', 'written', '()Ljava/lang/String;')
def wc_X11_written (X : cX) (b : Nat) (l0 : Nat) (μ : CM) (Q : Option Nat → CM → Prop) (XQ : Nat → CM → Prop) : Prop := tg μ l0 = 9 ∧ wc_X11_isThere X l0 μ (fun r1 μ2 => R32 r1 ∧ ((¬ r1 = 0 → (1 ≤ b ∧ ∀ a6, tg μ2 a6 = 0 → ∃ b9, b9 ≤ (b - 1) ∧ wc_J9_init X b9 a6 (alc μ2 a6 12 0) (fun μ12 => (tg μ12 l0 = 9 ∧ ∃ b14, b14 ≤ ((b - 1) - b9) ∧ wr_X11_write X 260 b14 l0 (oR μ12 l0 4) (some a6) μ12 (fun μ17 => (∃ b18, b18 ≤ (((b - 1) - b9) - b14) ∧ tg μ17 a6 = 12 ∧ wc_J9_toString X b18 a6 μ17 (fun r20 μ21 => Q r20 μ21))) XQ)))) ∧ (r1 = 0 → Q (some (cX_s X 5)) μ2)))
set_option maxHeartbeats 4000000 in
theorem sc_X11_written (l : Launch) (X : cX) (sz : Nat) (Q : Option Nat → CM → Prop) (XQ : Nat → CM → Prop) (b : Nat) (l0 : Nat) (μ : CM) (hw : wc_X11_written X b l0 μ Q XQ) : vy_Met l yX11_written (ws_ yX11_written cX11_written 2 (some (.object "java/lang/String"))) ({ frames := 803, cells := b, slots := 5 * b, locals := 17663 }) (cPc X (([aR (some l0)] : List AV).map toV) μ sz) (cQr X μ sz Q) (cXQ X μ sz "BinderPress$TooLong" XQ) b (5 * b) (cA X μ sz) := by
  refine cy_met2 (rm := ({ frames := 803, cells := b, slots := 5 * b, locals := 17663 })) (As := [aR (some l0)]) (L0 := [(0, aR (some l0))]) (by decide) rfl (Nat.le_of_ble_eq_true rfl) rfl ?_
  intro Z C hK hsz hR hl0 hin hX hQ
  subst hsz
  have C : gC Z cX11_written 2 RX11 (some (.object "java/lang/String")) 803 17663 := C
  have hQ : zz_q Z = vy_MQ (zz_b Z) (cQr X μ (zz_s Z).heap.size Q) (cXQ X μ (zz_s Z).heap.size "BinderPress$TooLong" XQ) (zz_a Z) (zz_s Z) (zz_R Z).cells (zz_R Z).slots (cA X μ (zz_s Z).heap.size) := by rw [hR]; exact hQ
  have hb : 0 + b ≤ (zz_R Z).cells ∧ 0 + 5 * b ≤ (zz_R Z).slots := by rw [hR]; exact ⟨by dsimp only; omega, by dsimp only; omega⟩
  unfold wc_X11_written at hw
  refine hx_aload_n C dX11_written_0 0 rfl rfl ?_
  obtain ⟨ht3, hw⟩ := hw
  refine fun H locs hI ls hl => cx_ri (S := []) hI hl (fun _ h => h) (cr_V (Cn := RX11) (As := []) (rest := []) C hK hI hl 0 (cv_dyn hK hI (ci := 8) rfl (Or.inr (cdE_8 ht3))) (sc_X11_isThere _ X H.size _ _ _ hw) (lw_V q1237 q1238 q1239 q107 q1240) (by decide +kernel) ⟨rfl, rfl, Nat.le_of_ble_eq_true rfl, Nat.le_of_ble_eq_true rfl⟩ (av_W [] 8 (Nat.le_of_ble_eq_true rfl)) dX11_written_1 rfl rfl ⟨by omega, by omega⟩) (fun r1 μ2 hw => ?_)
  obtain ⟨hr4, hw⟩ := hw
  refine hx_if_ne (tgt := 10) C dX11_written_4 (by decide) hr4 (fun h => ?_) (fun h => ?_)
  · have hw := hw.1 h
    obtain ⟨hu5, hw⟩ := hw
    refine cx_new (fs := fun a => coF_11 (alc μ2 a 12 0) a) C hK 11 12 rfl in_J9 tyJ9_ok q1247 q874 q105 (by decide) (fun a => cdE_11 alc_t) (cxd_11 _) (by omega) (by omega) dX11_written_10 (fun a6 hf7 => ?_)
    have hw := hw a6 hf7
    obtain hb : (0 + 1) + (b - 1) ≤ (zz_R Z).cells ∧ (0 + 4) + 5 * (b - 1) ≤ (zz_R Z).slots := ⟨by omega, by omega⟩
    have ht8 : tg (alc μ2 a6 12 0) a6 = 12 := alc_t
    refine hx_dup C dX11_written_13 rfl ?_
    obtain ⟨b9, hu10, hw⟩ := hw
    refine fun H locs hI ls hl => cx_rv (S := [aR (some a6)]) hI hl (fun _ h => h) (cr_I (a := a6) (As := []) (rest := [toV (aR (some a6))]) C hK hI hl 0 (sc_J9_init _ X H.size _ b9 _ _ hw) q1248 q876 q105 q877 rfl (by decide +kernel) ⟨rfl, rfl, Nat.le_of_ble_eq_true rfl, Nat.le_of_ble_eq_true rfl⟩ (av_W [aR (some a6)] 8 (Nat.le_of_ble_eq_true rfl)) dX11_written_14 rfl rfl ⟨by omega, by omega⟩) (fun μ12 hw => ?_)
    obtain hb : ((0 + 1) + b9) + ((b - 1) - b9) ≤ (zz_R Z).cells ∧ ((0 + 4) + 5 * b9) + 5 * ((b - 1) - b9) ≤ (zz_R Z).slots := ⟨by omega, by omega⟩
    refine hx_astore_n (L' := [(1, aR (some a6)), (0, aR (some l0))]) C dX11_written_17 rfl (by decide) rfl ?_
    refine hx_aload_n C dX11_written_18 1 rfl rfl ?_
    refine hx_aload_n C dX11_written_19 1 rfl rfl ?_
    obtain ⟨ht13, hw⟩ := hw
    refine cx_get (μ := μ12) (v := aR (oR μ12 l0 4)) C hK 8 4 rfl in_X11 (by decide) q1221 rfl (cdE_8 ht13) rfl dX11_written_20 ?_
    refine hx_aload_n C dX11_written_23 0 rfl rfl ?_
    obtain ⟨b14, hu15, hw⟩ := hw
    refine fun H locs hI ls hl => cy_rv (S := []) hI hl (fun _ h => h) (dy_V (Cn := RX11) (As := [toV (aR (oR μ12 l0 4)), toV (aR (some a6))]) (rest := []) C hK hI hl 2 (cv_dyn hK hI (ci := 8) rfl (Or.inr (cdE_8 ht13))) ((rr_X11_write _ X 260) b14 _ _ _ _ H.size _ _ hw) (by omega) (by omega) (lw_V q1249 q1251 qs30 q107 q1252) (by decide +kernel) (av_W [] 8 (Nat.le_of_ble_eq_true rfl)) dX11_written_24 rfl rfl ⟨by omega, by omega⟩) (fun q9 μ17x hx => cy_out C hX hQ (by omega) (by omega) hx) (fun μ17 hw => ?_)
    obtain hb : (((0 + 1) + b9) + b14) + (((b - 1) - b9) - b14) ≤ (zz_R Z).cells ∧ (((0 + 4) + 5 * b9) + 5 * b14) + 5 * (((b - 1) - b9) - b14) ≤ (zz_R Z).slots := ⟨by omega, by omega⟩
    refine hx_aload_n C dX11_written_27 0 rfl rfl ?_
    obtain ⟨b18, hu19, hw⟩ := hw
    obtain ⟨ht22, hw⟩ := hw
    refine fun H locs hI ls hl => cx_rr (S := []) hI hl (fun _ h => h) (cr_V (Cn := RJ9) (As := []) (rest := []) C hK hI hl 0 (cv_dyn hK hI (ci := 11) rfl (Or.inr (cdE_11 ht22))) (sc_J9_toString _ X H.size _ b18 _ _ hw) (lw_V q1279 q1062 q1063 q105 q1064) (by decide +kernel) ⟨rfl, rfl, Nat.le_of_ble_eq_true rfl, Nat.le_of_ble_eq_true rfl⟩ (av_W [] 8 (Nat.le_of_ble_eq_true rfl)) dX11_written_28 rfl rfl ⟨by omega, by omega⟩) (fun r20 μ21 hw => ?_)
    obtain hb : ((((0 + 1) + b9) + b14) + b18) + ((((b - 1) - b9) - b14) - b18) ≤ (zz_R Z).cells ∧ ((((0 + 4) + 5 * b9) + 5 * b14) + 5 * b18) + 5 * ((((b - 1) - b9) - b14) - b18) ≤ (zz_R Z).slots := ⟨by omega, by omega⟩
    exact cy_aret C hQ (by omega) (by omega) (Or.inl ⟨_, rfl⟩) hw dX11_written_31
  · have hw := hw.2 h
    refine cx_ldcS (num := 5) (tx := "") C hK (List.mem_of_getElem? (i := 17) rfl) dX11_written_7 ?_
    exact cy_aret C hQ (by omega) (by omega) (Or.inl ⟨_, rfl⟩) hw dX11_written_9
-- ('BinderPress', 'kindAt', '(I)Ljava/lang/String;')
def wc_X0_kindAt_43 (X : cX) (Q : Option Nat → CM → Prop) (l1 : Int) (b : Nat) (μ : CM) : Prop := (0 ≤ l1 ∧ l1 < 4) ∧ Q (kR μ 2 (l1).toNat) μ
set_option maxHeartbeats 4000000 in
theorem sc_X0_kindAt_43 {Z : zz} {X : cX} {μ0 : CM} {Q : Option Nat → CM → Prop} (C : gC Z cX0_kindAt 3 RX0 (some (.object "java/lang/String")) 1065 24763) (hK : cCt Z X μ0) (hX : (zz_c Z).exceptionTable.toList = tableOf [(9, 31, 34, 219)]) (hQ : zz_q Z = MQ (zz_b Z) (cQr X μ0 (zz_s Z).heap.size Q) (zz_a Z) (zz_s Z) (zz_R Z).cells (zz_R Z).slots (cA X μ0 (zz_s Z).heap.size))  : ∀ l1 b μ, wc_X0_kindAt_43 X Q l1 b μ → ∀ kk nn, (kk + b ≤ (zz_R Z).cells ∧ nn + 5 * b ≤ (zz_R Z).slots) → hG Z 3 (cI Z X μ0 μ) kk nn 43 [(0, aR (some (cX_h X))), (1, aI l1)] [] := by
  intro l1 b μ hw kk nn hb
  unfold wc_X0_kindAt_43 at hw
  refine hx_aload_n C dX0_kindAt_43 0 rfl rfl ?_
  refine cx_getS (μ := μ) (v := aR (some (cX_a X 2))) C hK 0 2 rfl in_X0 (by decide) q168 rfl rfl rfl dX0_kindAt_44 ?_
  refine hx_iload_n C dX0_kindAt_47 1 rfl rfl ?_
  obtain ⟨hx1, hw⟩ := hw
  refine cx_aald (μ := μ) (f := kR μ 2) C hK 3 rfl (Or.inl ⟨3, rfl⟩) hx1.1 hx1.2 (by decide) dX0_kindAt_48 ?_
  exact cx_aret C hQ (by omega) (by omega) (Or.inl ⟨_, rfl⟩) hw dX0_kindAt_49
def wc_X0_kindAt (X : cX) (b : Nat) (l1 : Int) (μ : CM) (Q : Option Nat → CM → Prop) : Prop := (0 ≤ l1 ∧ l1 < 4) ∧ ((¬ (kR μ 2 (l1).toNat) = none → wc_X0_kindAt_43 X   Q l1 b μ) ∧ ((kR μ 2 (l1).toNat) = none → (1 ≤ b ∧ ∀ a3, tg μ a3 = 0 → (0 ≤ l1 ∧ l1 < 4) ∧ ∃ b7, b7 ≤ (b - 1) ∧ wc_X11_init X b7 a3 (kR μ 1 (l1).toNat) (alc μ a3 9 0) (fun μ10 => (∃ b11, b11 ≤ ((b - 1) - b7) ∧ tg μ10 a3 = 9 ∧ wc_X11_written X b11 a3 μ10 (fun r13 μ14 => (0 ≤ l1 ∧ l1 < 4) ∧ (∀ v, r13 = some v → tg μ14 v = 13 ∨ tg μ14 v = 14) ∧ wc_X0_kindAt_43 X   Q l1 (((b - 1) - b7) - b11) (pkR μ14 2 (l1).toNat r13)) (fun q9 μ14x => (0 ≤ l1 ∧ l1 < 4) ∧ (∀ v, (some (cX_s X 7)) = some v → tg μ14x v = 13 ∨ tg μ14x v = 14) ∧ wc_X0_kindAt_43 X   Q l1 (((b - 1) - b7) - b11) (pkR μ14x 2 (l1).toNat (some (cX_s X 7)))))))))
set_option maxHeartbeats 4000000 in
theorem sc_X0_kindAt (l : Launch) (X : cX) (sz : Nat) (Q : Option Nat → CM → Prop) (b : Nat) (l1 : Int) (μ : CM) (hw : wc_X0_kindAt X b l1 μ Q) : Met l yX0_kindAt (wsW_ yX0_kindAt cX0_kindAt 3 (some (.object "java/lang/String")) [(9, 31, 34, 219)]) ({ frames := 1065, cells := b, slots := 5 * b, locals := 24763 }) (cPc X (([aR (some (cX_h X)), aI l1] : List AV).map toV) μ sz) (cQr X μ sz Q) b (5 * b) (cA X μ sz) := by
  refine cz_met2 (rm := ({ frames := 1065, cells := b, slots := 5 * b, locals := 24763 })) (As := [aR (some (cX_h X)), aI l1]) (L0 := [(0, aR (some (cX_h X))), (1, aI l1)]) (by decide) rfl (Nat.le_of_ble_eq_true rfl) rfl ?_
  intro Z C hK hsz hR hl0 hin hX hQ
  subst hsz
  have C : gC Z cX0_kindAt 3 RX0 (some (.object "java/lang/String")) 1065 24763 := C
  have hQ : zz_q Z = MQ (zz_b Z) (cQr X μ (zz_s Z).heap.size Q) (zz_a Z) (zz_s Z) (zz_R Z).cells (zz_R Z).slots (cA X μ (zz_s Z).heap.size) := by rw [hR]; exact hQ
  have hb : 0 + b ≤ (zz_R Z).cells ∧ 0 + 5 * b ≤ (zz_R Z).slots := by rw [hR]; exact ⟨by dsimp only; omega, by dsimp only; omega⟩
  unfold wc_X0_kindAt at hw
  refine hx_aload_n C dX0_kindAt_0 0 rfl rfl ?_
  refine cx_getS (μ := μ) (v := aR (some (cX_a X 2))) C hK 0 2 rfl in_X0 (by decide) q168 rfl rfl rfl dX0_kindAt_1 ?_
  refine hx_iload_n C dX0_kindAt_4 1 rfl rfl ?_
  obtain ⟨hx1, hw⟩ := hw
  refine cx_aald (μ := μ) (f := kR μ 2) C hK 3 rfl (Or.inl ⟨3, rfl⟩) hx1.1 hx1.2 (by decide) dX0_kindAt_5 ?_
  refine hx_ifnonnull (tgt := 43) C dX0_kindAt_6 (by decide) (fun h => ?_) (fun h => ?_)
  · have hw := hw.1 h
    refine hx_L [0, 1] rfl ?_
    exact sc_X0_kindAt_43 C hK hX hQ  _ _ _ hw _ _ hb
  · have hw := hw.2 h
    refine hx_aload_n C dX0_kindAt_9 0 rfl rfl ?_
    refine cx_getS (μ := μ) (v := aR (some (cX_a X 2))) C hK 0 2 rfl in_X0 (by decide) q168 rfl rfl rfl dX0_kindAt_10 ?_
    refine hx_iload_n C dX0_kindAt_13 1 rfl rfl ?_
    obtain ⟨hu2, hw⟩ := hw
    refine cx_new (fs := fun a => coF_8 (alc μ a 9 0) a) C hK 8 9 rfl in_X11 tyX11_ok q1151 q1152 q107 (by decide) (fun a => cdE_8 alc_t) (cxd_8 _) (by omega) (by omega) dX0_kindAt_14 (fun a3 hf4 => ?_)
    have hw := hw a3 hf4
    obtain hb : (0 + 1) + (b - 1) ≤ (zz_R Z).cells ∧ (0 + 5) + 5 * (b - 1) ≤ (zz_R Z).slots := ⟨by omega, by omega⟩
    have ht5 : tg (alc μ a3 9 0) a3 = 9 := alc_t
    refine hx_dup C dX0_kindAt_17 rfl ?_
    refine hx_aload_n C dX0_kindAt_18 0 rfl rfl ?_
    refine cx_getS (μ := (alc μ a3 9 0)) (v := aR (some (cX_a X 1))) C hK 0 1 rfl in_X0 (by decide) q167 rfl rfl rfl dX0_kindAt_19 ?_
    refine hx_iload_n C dX0_kindAt_22 1 rfl rfl ?_
    obtain ⟨hx6, hw⟩ := hw
    refine cx_aald (μ := (alc μ a3 9 0)) (f := kR μ 1) C hK 2 rfl (Or.inl ⟨2, rfl⟩) hx6.1 hx6.2 (by decide) dX0_kindAt_23 ?_
    obtain ⟨b7, hu8, hw⟩ := hw
    refine fun H locs hI ls hl => cx_rv (S := [aR (some a3), aI l1, aR (some (cX_a X 2))]) hI hl (fun _ h => h) (cr_I (a := a3) (As := [toV (aR (kR μ 1 (l1).toNat))]) (rest := [toV (aR (some a3)), toV (aI l1), toV (aR (some (cX_a X 2)))]) C hK hI hl 1 (sc_X11_init _ X H.size _ b7 _ _ _ hw) q1153 q1154 q107 q1155 rfl (by decide +kernel) ⟨rfl, rfl, Nat.le_of_ble_eq_true rfl, Nat.le_of_ble_eq_true rfl⟩ (av_W [aR (some a3), aI l1, aR (some (cX_a X 2))] 8 (Nat.le_of_ble_eq_true rfl)) dX0_kindAt_24 rfl rfl ⟨by omega, by omega⟩) (fun μ10 hw => ?_)
    obtain hb : ((0 + 1) + b7) + ((b - 1) - b7) ≤ (zz_R Z).cells ∧ ((0 + 5) + 5 * b7) + 5 * ((b - 1) - b7) ≤ (zz_R Z).slots := ⟨by omega, by omega⟩
    obtain ⟨b11, hu12, hw⟩ := hw
    obtain ⟨ht15, hw⟩ := hw
    refine fun H locs hI ls hl => cy_rr (S := [aI l1, aR (some (cX_a X 2))]) hI hl (fun _ h => h) (cy_V (Cn := RX11) (As := []) (rest := [toV (aI l1), toV (aR (some (cX_a X 2)))]) C hK hI hl 0 (cv_dyn hK hI (ci := 8) rfl (Or.inr (cdE_8 ht15))) (sc_X11_written _ X H.size _ _ b11 _ _ hw) (lw_V q1233 q1234 q1235 q107 q1236) (by decide +kernel) ⟨rfl, rfl, Nat.le_of_ble_eq_true rfl, Nat.le_of_ble_eq_true rfl⟩ (av_W [aI l1, aR (some (cX_a X 2))] 8 (Nat.le_of_ble_eq_true rfl)) dX0_kindAt_27 rfl rfl ⟨by omega, by omega⟩) (fun q9 μ14x hw => ?_) (fun r13 μ14 hw => ?_)
    · refine cy_catch (tgt := 34) C hK ⟨9, 31, 34, 219⟩ (tableOf [(9, 31, 34, 219)]).tail hX (by decide) (by decide) q1150 (List.mem_of_getElem? (i := 36) rfl) rfl ?_
      obtain hb : (((0 + 1) + b7) + b11) + (((b - 1) - b7) - b11) ≤ (zz_R Z).cells ∧ (((0 + 5) + 5 * b7) + 5 * b11) + 5 * (((b - 1) - b7) - b11) ≤ (zz_R Z).slots := ⟨by omega, by omega⟩
      refine hx_astore_n (L' := [(2, aR (some q9)), (0, aR (some (cX_h X))), (1, aI l1)]) C dX0_kindAt_34 rfl (by decide) rfl ?_
      refine hx_aload_n C dX0_kindAt_35 1 rfl rfl ?_
      refine cx_getS (μ := μ14x) (v := aR (some (cX_a X 2))) C hK 0 2 rfl in_X0 (by decide) q168 rfl rfl rfl dX0_kindAt_36 ?_
      refine hx_iload_n C dX0_kindAt_39 2 rfl rfl ?_
      refine cx_ldcS (num := 7) (tx := "*") C hK (List.mem_of_getElem? (i := 7) rfl) dX0_kindAt_40 ?_
      obtain ⟨hx16, hw⟩ := hw
      obtain ⟨hy17, hw⟩ := hw
      refine cx_aastS (μ := μ14x) (μ' := (pkR μ14x 2 (l1).toNat (some (cX_s X 7)))) C hK (cu_S 3 rfl (csb_2 X _ _ _) rfl rfl rfl rfl) hy17 hx16.1 hx16.2 (by decide) dX0_kindAt_42 ?_
      refine hx_L [1, 2] rfl ?_
      exact sc_X0_kindAt_43 C hK hX hQ  _ _ _ hw _ _ hb
    · skip
      obtain hb : (((0 + 1) + b7) + b11) + (((b - 1) - b7) - b11) ≤ (zz_R Z).cells ∧ (((0 + 5) + 5 * b7) + 5 * b11) + 5 * (((b - 1) - b7) - b11) ≤ (zz_R Z).slots := ⟨by omega, by omega⟩
      obtain ⟨hx18, hw⟩ := hw
      obtain ⟨hy19, hw⟩ := hw
      refine cx_aastS (μ := μ14) (μ' := (pkR μ14 2 (l1).toNat r13)) C hK (cu_S 3 rfl (csb_2 X _ _ _) rfl rfl rfl rfl) hy19 hx18.1 hx18.2 (by decide) dX0_kindAt_30 ?_
      refine hx_goto (tgt := 43) C dX0_kindAt_31 (by decide) ?_
      refine hx_L [0, 1] rfl ?_
      exact sc_X0_kindAt_43 C hK hX hQ  _ _ _ hw _ _ hb
-- ('BinderPress', 'isTooLong', '(I)Z')
def wc_X0_isTooLong (X : cX) (b : Nat) (l1 : Int) (μ : CM) (Q : Int → CM → Prop) : Prop := (∃ b1, b1 ≤ b ∧ wc_X0_kindAt X b1 l1 μ (fun r3 μ4 => (∃ a5, r3 = some a5 ∧ (tg μ4 a5 = 13 ∨ tg μ4 a5 = 14) ∧ wc_J0_equals X a5 (some (cX_s X 7)) μ4 (fun r7 μ8 => (r7 = 0 ∨ r7 = 1) ∧ Q r7 μ8))))
set_option maxHeartbeats 4000000 in
theorem sc_X0_isTooLong (l : Launch) (X : cX) (sz : Nat) (Q : Int → CM → Prop) (b : Nat) (l1 : Int) (μ : CM) (hw : wc_X0_isTooLong X b l1 μ Q) : Met l yX0_isTooLong (ws_ yX0_isTooLong cX0_isTooLong 2 (some .boolean)) ({ frames := 1066, cells := b, slots := 5 * b, locals := 24785 }) (cPc X (([aR (some (cX_h X)), aI l1] : List AV).map toV) μ sz) (cQi X μ sz Q) b (5 * b) (cA X μ sz) := by
  refine cx_met2 (rm := ({ frames := 1066, cells := b, slots := 5 * b, locals := 24785 })) (As := [aR (some (cX_h X)), aI l1]) (L0 := [(0, aR (some (cX_h X))), (1, aI l1)]) (by decide) rfl (Nat.le_of_ble_eq_true rfl) rfl ?_
  intro Z C hK hsz hR hl0 hin hQ
  subst hsz
  have C : gC Z cX0_isTooLong 2 RX0 (some .boolean) 1066 24785 := C
  have hQ : zz_q Z = MQ (zz_b Z) (cQi X μ (zz_s Z).heap.size Q) (zz_a Z) (zz_s Z) (zz_R Z).cells (zz_R Z).slots (cA X μ (zz_s Z).heap.size) := by rw [hR]; exact hQ
  have hb : 0 + b ≤ (zz_R Z).cells ∧ 0 + 5 * b ≤ (zz_R Z).slots := by rw [hR]; exact ⟨by dsimp only; omega, by dsimp only; omega⟩
  unfold wc_X0_isTooLong at hw
  refine hx_aload_n C dX0_isTooLong_0 0 rfl rfl ?_
  refine hx_iload_n C dX0_isTooLong_1 1 rfl rfl ?_
  obtain ⟨b1, hu2, hw⟩ := hw
  refine fun H locs hI ls hl => cx_rr (S := []) hI hl (fun _ h => h) (cr_VW (Cn := RX0) (As := [toV (aI l1)]) (rest := []) C hK hI hl 1 (cv_dyn hK hI (ci := 0) rfl (Or.inl ⟨0, rfl⟩)) (sc_X0_kindAt _ X H.size _ b1 _ _ hw) (lw_VW q1146 q1148 qs26 q84 q1149) (by decide +kernel) ⟨rfl, rfl, Nat.le_of_ble_eq_true rfl, Nat.le_of_ble_eq_true rfl⟩ (av_W [] 8 (Nat.le_of_ble_eq_true rfl)) dX0_isTooLong_2 rfl rfl ⟨by omega, by omega⟩) (fun r3 μ4 hw => ?_)
  obtain hb : (0 + b1) + (b - b1) ≤ (zz_R Z).cells ∧ (0 + 5 * b1) + 5 * (b - b1) ≤ (zz_R Z).slots := ⟨by omega, by omega⟩
  refine cx_ldcS (num := 7) (tx := "*") C hK (List.mem_of_getElem? (i := 7) rfl) dX0_isTooLong_5 ?_
  obtain ⟨a5, ha6, hw⟩ := hw
  rw [ha6]
  obtain ⟨ht9, hw⟩ := hw
  refine fun H locs hI ls hl => cx_ri (S := []) hI hl (fun _ h => h) (cr_V (Cn := RJ0) (As := [toV (aR (some (cX_s X 7)))]) (rest := []) C hK hI hl 1 (cv_str hK hI ht9) (sc_J0_equals _ X H.size _ _ _ _ hw) (lw_V q1281 q767 q768 q88 q769) (by decide +kernel) ⟨rfl, rfl, Nat.le_of_ble_eq_true rfl, Nat.le_of_ble_eq_true rfl⟩ (av_W [] 8 (Nat.le_of_ble_eq_true rfl)) dX0_isTooLong_7 rfl rfl ⟨by omega, by omega⟩) (fun r7 μ8 hw => ?_)
  obtain ⟨hz, hw⟩ := hw
  exact cx_iret C hQ (by omega) (by omega) (mz_n hz) hw dX0_isTooLong_10
-- ('BinderPress', 'kindLength', '(I)I')
def wc_X0_kindLength_36 (X : cX) (Q : Int → CM → Prop) (s0 : Int) (b : Nat) (μ : CM) : Prop := Q s0 μ
set_option maxHeartbeats 4000000 in
theorem sc_X0_kindLength_36 {Z : zz} {X : cX} {μ0 : CM} {Q : Int → CM → Prop} (C : gC Z cX0_kindLength 2 RX0 (some .int) 1067 24806) (hK : cCt Z X μ0) (hQ : zz_q Z = MQ (zz_b Z) (cQi X μ0 (zz_s Z).heap.size Q) (zz_a Z) (zz_s Z) (zz_R Z).cells (zz_R Z).slots (cA X μ0 (zz_s Z).heap.size))  : ∀ s0 b μ, wc_X0_kindLength_36 X Q s0 b μ → ∀ kk nn, (kk + b ≤ (zz_R Z).cells ∧ nn + 5 * b ≤ (zz_R Z).slots) → hG Z 2 (cI Z X μ0 μ) kk nn 36 [] [aI s0] := by
  intro s0 b μ hw kk nn hb
  unfold wc_X0_kindLength_36 at hw
  exact cx_iret C hQ (by omega) (by omega) rfl hw dX0_kindLength_36
def wc_X0_kindLength (X : cX) (b : Nat) (l1 : Int) (μ : CM) (Q : Int → CM → Prop) : Prop := (∃ b1, b1 ≤ b ∧ wc_X0_isTooLong X b1 l1 μ (fun r3 μ4 => R32 r3 ∧ ((r3 = 0 → (∃ b6, b6 ≤ (b - b1) ∧ wc_X0_kindAt X b6 l1 μ4 (fun r8 μ9 => (∃ a10, r8 = some a10 ∧ (tg μ9 a10 = 13 ∨ tg μ9 a10 = 14) ∧ wc_J0_length X a10 μ9 (fun r12 μ13 => R32 r12 ∧ ((¬ r12 = 0 → (∃ b16, b16 ≤ ((b - b1) - b6) ∧ wc_X0_kindAt X b16 l1 μ13 (fun r18 μ19 => (∃ a20, r18 = some a20 ∧ (tg μ19 a20 = 13 ∨ tg μ19 a20 = 14) ∧ wc_J0_length X a20 μ19 (fun r22 μ23 => wc_X0_kindLength_36 X   Q r22 (((b - b1) - b6) - b16) μ23))))) ∧ (r12 = 0 → wc_X0_kindLength_36 X   Q (-1) ((b - b1) - b6) μ13))))))) ∧ (¬ r3 = 0 → wc_X0_kindLength_36 X   Q (-1000000004) (b - b1) μ4))))
set_option maxHeartbeats 4000000 in
theorem sc_X0_kindLength (l : Launch) (X : cX) (sz : Nat) (Q : Int → CM → Prop) (b : Nat) (l1 : Int) (μ : CM) (hw : wc_X0_kindLength X b l1 μ Q) : Met l yX0_kindLength (ws_ yX0_kindLength cX0_kindLength 2 (some .int)) ({ frames := 1067, cells := b, slots := 5 * b, locals := 24806 }) (cPc X (([aR (some (cX_h X)), aI l1] : List AV).map toV) μ sz) (cQi X μ sz Q) b (5 * b) (cA X μ sz) := by
  refine cx_met2 (rm := ({ frames := 1067, cells := b, slots := 5 * b, locals := 24806 })) (As := [aR (some (cX_h X)), aI l1]) (L0 := [(0, aR (some (cX_h X))), (1, aI l1)]) (by decide) rfl (Nat.le_of_ble_eq_true rfl) rfl ?_
  intro Z C hK hsz hR hl0 hin hQ
  subst hsz
  have C : gC Z cX0_kindLength 2 RX0 (some .int) 1067 24806 := C
  have hQ : zz_q Z = MQ (zz_b Z) (cQi X μ (zz_s Z).heap.size Q) (zz_a Z) (zz_s Z) (zz_R Z).cells (zz_R Z).slots (cA X μ (zz_s Z).heap.size) := by rw [hR]; exact hQ
  have hb : 0 + b ≤ (zz_R Z).cells ∧ 0 + 5 * b ≤ (zz_R Z).slots := by rw [hR]; exact ⟨by dsimp only; omega, by dsimp only; omega⟩
  unfold wc_X0_kindLength at hw
  refine hx_aload_n C dX0_kindLength_0 0 rfl rfl ?_
  refine hx_iload_n C dX0_kindLength_1 1 rfl rfl ?_
  obtain ⟨b1, hu2, hw⟩ := hw
  refine fun H locs hI ls hl => cx_ri (S := []) hI hl (fun _ h => h) (cr_V (Cn := RX0) (As := [toV (aI l1)]) (rest := []) C hK hI hl 1 (cv_dyn hK hI (ci := 0) rfl (Or.inl ⟨0, rfl⟩)) (sc_X0_isTooLong _ X H.size _ b1 _ _ hw) (lw_V q1142 q1144 qs25 q84 q1145) (by decide +kernel) ⟨rfl, rfl, Nat.le_of_ble_eq_true rfl, Nat.le_of_ble_eq_true rfl⟩ (av_W [] 8 (Nat.le_of_ble_eq_true rfl)) dX0_kindLength_2 rfl rfl ⟨by omega, by omega⟩) (fun r3 μ4 hw => ?_)
  obtain hb : (0 + b1) + (b - b1) ≤ (zz_R Z).cells ∧ (0 + 5 * b1) + 5 * (b - b1) ≤ (zz_R Z).slots := ⟨by omega, by omega⟩
  obtain ⟨hr5, hw⟩ := hw
  refine hx_if_eq (tgt := 13) C dX0_kindLength_5 (by decide) hr5 (fun h => ?_) (fun h => ?_)
  · have hw := hw.1 h
    refine hx_aload_n C dX0_kindLength_13 0 rfl rfl ?_
    refine hx_iload_n C dX0_kindLength_14 1 rfl rfl ?_
    obtain ⟨b6, hu7, hw⟩ := hw
    refine fun H locs hI ls hl => cx_rr (S := []) hI hl (fun _ h => h) (cr_VW (Cn := RX0) (As := [toV (aI l1)]) (rest := []) C hK hI hl 1 (cv_dyn hK hI (ci := 0) rfl (Or.inl ⟨0, rfl⟩)) (sc_X0_kindAt _ X H.size _ b6 _ _ hw) (lw_VW q1146 q1148 qs26 q84 q1149) (by decide +kernel) ⟨rfl, rfl, Nat.le_of_ble_eq_true rfl, Nat.le_of_ble_eq_true rfl⟩ (av_W [] 8 (Nat.le_of_ble_eq_true rfl)) dX0_kindLength_15 rfl rfl ⟨by omega, by omega⟩) (fun r8 μ9 hw => ?_)
    obtain hb : ((0 + b1) + b6) + ((b - b1) - b6) ≤ (zz_R Z).cells ∧ ((0 + 5 * b1) + 5 * b6) + 5 * ((b - b1) - b6) ≤ (zz_R Z).slots := ⟨by omega, by omega⟩
    obtain ⟨a10, ha11, hw⟩ := hw
    rw [ha11]
    obtain ⟨ht14, hw⟩ := hw
    refine fun H locs hI ls hl => cx_ri (S := []) hI hl (fun _ h => h) (cr_V (Cn := RJ0) (As := []) (rest := []) C hK hI hl 0 (cv_str hK hI ht14) (sc_J0_length _ X H.size _ _ _ hw) (lw_V q822 q270 q271 q88 q272) (by decide +kernel) ⟨rfl, rfl, Nat.le_of_ble_eq_true rfl, Nat.le_of_ble_eq_true rfl⟩ (av_W [] 8 (Nat.le_of_ble_eq_true rfl)) dX0_kindLength_18 rfl rfl ⟨by omega, by omega⟩) (fun r12 μ13 hw => ?_)
    obtain ⟨hr15, hw⟩ := hw
    refine hx_if_ne (tgt := 28) C dX0_kindLength_21 (by decide) hr15 (fun h => ?_) (fun h => ?_)
    · have hw := hw.1 h
      refine hx_aload_n C dX0_kindLength_28 0 rfl rfl ?_
      refine hx_iload_n C dX0_kindLength_29 1 rfl rfl ?_
      obtain ⟨b16, hu17, hw⟩ := hw
      refine fun H locs hI ls hl => cx_rr (S := []) hI hl (fun _ h => h) (cr_VW (Cn := RX0) (As := [toV (aI l1)]) (rest := []) C hK hI hl 1 (cv_dyn hK hI (ci := 0) rfl (Or.inl ⟨0, rfl⟩)) (sc_X0_kindAt _ X H.size _ b16 _ _ hw) (lw_VW q1146 q1148 qs26 q84 q1149) (by decide +kernel) ⟨rfl, rfl, Nat.le_of_ble_eq_true rfl, Nat.le_of_ble_eq_true rfl⟩ (av_W [] 8 (Nat.le_of_ble_eq_true rfl)) dX0_kindLength_30 rfl rfl ⟨by omega, by omega⟩) (fun r18 μ19 hw => ?_)
      obtain hb : (((0 + b1) + b6) + b16) + (((b - b1) - b6) - b16) ≤ (zz_R Z).cells ∧ (((0 + 5 * b1) + 5 * b6) + 5 * b16) + 5 * (((b - b1) - b6) - b16) ≤ (zz_R Z).slots := ⟨by omega, by omega⟩
      obtain ⟨a20, ha21, hw⟩ := hw
      rw [ha21]
      obtain ⟨ht24, hw⟩ := hw
      refine fun H locs hI ls hl => cx_ri (S := []) hI hl (fun _ h => h) (cr_V (Cn := RJ0) (As := []) (rest := []) C hK hI hl 0 (cv_str hK hI ht24) (sc_J0_length _ X H.size _ _ _ hw) (lw_V q822 q270 q271 q88 q272) (by decide +kernel) ⟨rfl, rfl, Nat.le_of_ble_eq_true rfl, Nat.le_of_ble_eq_true rfl⟩ (av_W [] 8 (Nat.le_of_ble_eq_true rfl)) dX0_kindLength_33 rfl rfl ⟨by omega, by omega⟩) (fun r22 μ23 hw => ?_)
      refine hx_L [] rfl ?_
      exact sc_X0_kindLength_36 C hK hQ  _ _ _ hw _ _ hb
    · have hw := hw.2 h
      refine hx_iconst C dX0_kindLength_24 ?_
      refine hx_goto (tgt := 36) C dX0_kindLength_25 (by decide) ?_
      refine hx_L [] rfl ?_
      exact sc_X0_kindLength_36 C hK hQ  _ _ _ hw _ _ hb
  · have hw := hw.2 h
    refine hx_ldc C (-1000000004) q209 (by decide) dX0_kindLength_8 ?_
    refine hx_goto (tgt := 36) C dX0_kindLength_10 (by decide) ?_
    refine hx_L [] rfl ?_
    exact sc_X0_kindLength_36 C hK hQ  _ _ _ hw _ _ hb
