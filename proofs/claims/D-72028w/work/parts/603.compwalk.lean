/-! walks of the component (printed by gen_comp) -/
set_option maxRecDepth 100000
-- compiled
def wd_compiled (X : cX) (rc : Nat → Nat → CM → (Option Nat → CM → Prop) → Prop) : Nat → Nat → CM → (Option Nat → CM → Prop) → Prop := fun b a μ Q => (tg μ a = 6 ∧ wc_X7_compiled X b a μ Q) ∨ (tg μ a = 7 ∧ wc_X8_compiled X b a μ Q) ∨ (tg μ a = 8 ∧ wc_X9_compiled X rc b a μ Q) ∨ (tg μ a = 5 ∧ wc_X6_compiled X rc b a μ Q)
def wr_V_compiled (X : cX) : Nat → Nat → Nat → CM → (Option Nat → CM → Prop) → Prop
  | 0 => fun _ _ _ _ => False
  | d + 1 => wd_compiled X (wr_V_compiled X d)
set_option maxHeartbeats 4000000 in
theorem rr_V_compiled (l : Launch) (X : cX) : ∀ d, rmet_V_compiled l X (3133 + 1 * d) (65664 + 20 * d) (wr_V_compiled X d) := by
  intro d
  induction d with
  | zero => intro b a μ sz Q h; exact h.elim
  | succ d ih =>
    intro b a μ sz Q h
    rcases h with ⟨ht, hw⟩ | ⟨ht, hw⟩ | ⟨ht, hw⟩ | ⟨ht, hw⟩
    · exact Or.inl (⟨ht, _, ⟨rfl, rfl, by first | omega | (dsimp only; omega), by first | omega | (dsimp only; omega)⟩, sc_X7_compiled l X sz Q b _ _ hw⟩)
    · exact Or.inr (Or.inl (⟨ht, _, ⟨rfl, rfl, by first | omega | (dsimp only; omega), by first | omega | (dsimp only; omega)⟩, sc_X8_compiled l X sz Q b _ _ hw⟩))
    · exact Or.inr (Or.inr (Or.inl (⟨ht, _, ⟨rfl, rfl, by first | omega | (dsimp only; omega), by first | omega | (dsimp only; omega)⟩, sc_X9_compiled l X sz Q (by omega) (by omega) ih b _ _ hw⟩)))
    · exact Or.inr (Or.inr (Or.inr (⟨ht, _, ⟨rfl, rfl, by first | omega | (dsimp only; omega), by first | omega | (dsimp only; omega)⟩, sc_X6_compiled l X sz Q (by omega) (by omega) ih b _ _ hw⟩)))
-- ('BinderPress$Name', 'putIn', '(ILBinderPress$Term;)LBinderPress$Term;')
def wc_X7_putIn_13 (X : cX) (Q : Option Nat → CM → Prop) (s0 : Option Nat) (b : Nat) (μ : CM) : Prop := Q s0 μ
set_option maxHeartbeats 4000000 in
theorem sc_X7_putIn_13 {Z : zz} {X : cX} {μ0 : CM} {Q : Option Nat → CM → Prop} (C : gC Z cX7_putIn 3 RX7 (some (.object "BinderPress$Term")) 0 0) (hK : cCt Z X μ0) (hQ : zz_q Z = MQ (zz_b Z) (cQr X μ0 (zz_s Z).heap.size Q) (zz_a Z) (zz_s Z) (zz_R Z).cells (zz_R Z).slots (cA X μ0 (zz_s Z).heap.size))  : ∀ s0 b μ, wc_X7_putIn_13 X Q s0 b μ → ∀ kk nn, (kk + b ≤ (zz_R Z).cells ∧ nn + 5 * b ≤ (zz_R Z).slots) → hG Z 3 (cI Z X μ0 μ) kk nn 13 [] [aR s0] := by
  intro s0 b μ hw kk nn hb
  unfold wc_X7_putIn_13 at hw
  exact cx_aret C hQ (by omega) (by omega) (Or.inl ⟨_, rfl⟩) hw dX7_putIn_13
def wc_X7_putIn (X : cX) (b : Nat) (l0 : Nat) (l1 : Int) (l2 : Option Nat) (μ : CM) (Q : Option Nat → CM → Prop) : Prop := tg μ l0 = 6 ∧ R32 l1 ∧ R32 (oI μ l0 0) ∧ ((¬ l1 = (oI μ l0 0) → wc_X7_putIn_13 X   Q (some l0) b μ) ∧ (l1 = (oI μ l0 0) → wc_X7_putIn_13 X   Q l2 b μ))
set_option maxHeartbeats 4000000 in
theorem sc_X7_putIn (l : Launch) (X : cX) (sz : Nat) (Q : Option Nat → CM → Prop) (b : Nat) (l0 : Nat) (l1 : Int) (l2 : Option Nat) (μ : CM) (hw : wc_X7_putIn X b l0 l1 l2 μ Q) : Met l yX7_putIn (ws_ yX7_putIn cX7_putIn 3 (some (.object "BinderPress$Term"))) ({ frames := 0, cells := b, slots := 5 * b, locals := 0 }) (cPc X (([aR (some l0), aI l1, aR l2] : List AV).map toV) μ sz) (cQr X μ sz Q) b (5 * b) (cA X μ sz) := by
  refine cx_met2 (rm := ({ frames := 0, cells := b, slots := 5 * b, locals := 0 })) (As := [aR (some l0), aI l1, aR l2]) (L0 := [(0, aR (some l0)), (1, aI l1), (2, aR l2)]) (by decide) rfl (Nat.le_of_ble_eq_true rfl) rfl ?_
  intro Z C hK hsz hR hl0 hin hQ
  subst hsz
  have C : gC Z cX7_putIn 3 RX7 (some (.object "BinderPress$Term")) 0 0 := C
  have hQ : zz_q Z = MQ (zz_b Z) (cQr X μ (zz_s Z).heap.size Q) (zz_a Z) (zz_s Z) (zz_R Z).cells (zz_R Z).slots (cA X μ (zz_s Z).heap.size) := by rw [hR]; exact hQ
  have hb : 0 + b ≤ (zz_R Z).cells ∧ 0 + 5 * b ≤ (zz_R Z).slots := by rw [hR]; exact ⟨by dsimp only; omega, by dsimp only; omega⟩
  unfold wc_X7_putIn at hw
  refine hx_iload_n C dX7_putIn_0 1 rfl rfl ?_
  refine hx_aload_n C dX7_putIn_1 0 rfl rfl ?_
  obtain ⟨ht1, hw⟩ := hw
  refine cx_get (μ := μ) (v := aI (oI μ l0 0)) C hK 5 0 rfl in_X7 (by decide) q393 rfl (cdE_5 ht1) rfl dX7_putIn_2 ?_
  obtain ⟨hr2, hw⟩ := hw
  obtain ⟨hr3, hw⟩ := hw
  refine hx_icmp_ne (tgt := 12) C dX7_putIn_5 (by decide) hr2 hr3 (fun h => ?_) (fun h => ?_)
  · have hw := hw.1 h
    refine hx_aload_n C dX7_putIn_12 0 rfl rfl ?_
    refine hx_L [] rfl ?_
    exact sc_X7_putIn_13 C hK hQ  _ _ _ hw _ _ hb
  · have hw := hw.2 h
    refine hx_aload_n C dX7_putIn_8 2 rfl rfl ?_
    refine hx_goto (tgt := 13) C dX7_putIn_9 (by decide) ?_
    refine hx_L [] rfl ?_
    exact sc_X7_putIn_13 C hK hQ  _ _ _ hw _ _ hb
-- ('BinderPress$Sign', 'putIn', '(ILBinderPress$Term;)LBinderPress$Term;')
def wc_X8_putIn (X : cX) (b : Nat) (l0 : Nat) (l1 : Int) (l2 : Option Nat) (μ : CM) (Q : Option Nat → CM → Prop) : Prop := Q (some l0) μ
set_option maxHeartbeats 4000000 in
theorem sc_X8_putIn (l : Launch) (X : cX) (sz : Nat) (Q : Option Nat → CM → Prop) (b : Nat) (l0 : Nat) (l1 : Int) (l2 : Option Nat) (μ : CM) (hw : wc_X8_putIn X b l0 l1 l2 μ Q) : Met l yX8_putIn (ws_ yX8_putIn cX8_putIn 3 (some (.object "BinderPress$Term"))) ({ frames := 0, cells := b, slots := 5 * b, locals := 0 }) (cPc X (([aR (some l0), aI l1, aR l2] : List AV).map toV) μ sz) (cQr X μ sz Q) b (5 * b) (cA X μ sz) := by
  refine cx_met2 (rm := ({ frames := 0, cells := b, slots := 5 * b, locals := 0 })) (As := [aR (some l0), aI l1, aR l2]) (L0 := [(0, aR (some l0)), (1, aI l1), (2, aR l2)]) (by decide) rfl (Nat.le_of_ble_eq_true rfl) rfl ?_
  intro Z C hK hsz hR hl0 hin hQ
  subst hsz
  have C : gC Z cX8_putIn 3 RX8 (some (.object "BinderPress$Term")) 0 0 := C
  have hQ : zz_q Z = MQ (zz_b Z) (cQr X μ (zz_s Z).heap.size Q) (zz_a Z) (zz_s Z) (zz_R Z).cells (zz_R Z).slots (cA X μ (zz_s Z).heap.size) := by rw [hR]; exact hQ
  have hb : 0 + b ≤ (zz_R Z).cells ∧ 0 + 5 * b ≤ (zz_R Z).slots := by rw [hR]; exact ⟨by dsimp only; omega, by dsimp only; omega⟩
  unfold wc_X8_putIn at hw
  refine hx_aload_n C dX8_putIn_0 0 rfl rfl ?_
  exact cx_aret C hQ (by omega) (by omega) (Or.inl ⟨_, rfl⟩) hw dX8_putIn_1
-- ('BinderPress$Put', 'putIn', '(ILBinderPress$Term;)LBinderPress$Term;')
def rmet_V_putIn (l : Launch) (X : cX) (fr lo : Nat) (rc : Nat → Nat → Int → Option Nat → CM → (Option Nat → CM → Prop) → Prop) : Prop := ∀ (b : Nat) (a : Nat) (l1 : Int) (l2 : Option Nat) (μ : CM) (sz : Nat) (Q : Option Nat → CM → Prop), rc b a l1 l2 μ Q → (tg μ a = 6 ∧ ∃ rm, crm rm b (5 * b) fr lo 3 ∧ Met l yX7_putIn (ws_ yX7_putIn cX7_putIn 3 (some (.object "BinderPress$Term"))) rm (cPc X (([aR (some a), aI l1, aR l2] : List AV).map toV) μ sz) (cQr X μ sz Q) b (5 * b) (cA X μ sz)) ∨ (tg μ a = 7 ∧ ∃ rm, crm rm b (5 * b) fr lo 3 ∧ Met l yX8_putIn (ws_ yX8_putIn cX8_putIn 3 (some (.object "BinderPress$Term"))) rm (cPc X (([aR (some a), aI l1, aR l2] : List AV).map toV) μ sz) (cQr X μ sz Q) b (5 * b) (cA X μ sz)) ∨ (tg μ a = 8 ∧ ∃ rm, crm rm b (5 * b) fr lo 3 ∧ Met l yX9_putIn (ws_ yX9_putIn cX9_putIn 3 (some (.object "BinderPress$Term"))) rm (cPc X (([aR (some a), aI l1, aR l2] : List AV).map toV) μ sz) (cQr X μ sz Q) b (5 * b) (cA X μ sz))
set_option maxHeartbeats 4000000 in
theorem dv_putIn {Z : zz} {X : cX} {μ0 μ : CM} {cc : ByteArray} {nL : Nat} {own : String} {ret : Option FieldType} {F N kk nn pc : Nat} {H : Heap} {locs : List Loc} {ls : Array Slot} {lv : List (Nat × Value)} {stk rest : List Value} {index fr lo : Nat} {Q : Option Nat → CM → Prop} {rc : Nat → Nat → Int → Option Nat → CM → (Option Nat → CM → Prop) → Prop} {b : Nat} {a : Nat} {l1 : Int} {l2 : Option Nat} (C : gC Z cc nL own ret F N) (hK : cCt Z X μ0) (hI : cI Z X μ0 μ H locs) (hl : lv_has ls nL lv) (hrc : rmet_V_putIn (zz_l Z) X fr lo rc) (hw : rc b a l1 l2 μ Q) (hF : fr ≤ F) (hN : lo ≤ N) (hlk : (Cond.methodLink own index ⟨"BinderPress$Term", "putIn", "(ILBinderPress$Term;)LBinderPress$Term;"⟩).before (zz_a Z) (zz_s Z) = true) (hW : (rest.map fun v => v.category).sum ≤ 8) (d : decode cc pc = .ok (.invokevirtual index, 3)) (hn : ([toV (aI l1), toV (aR l2)] : List Value).length = 2) (hs : stk = ([toV (aI l1), toV (aR l2)] : List Value).reverse ++ .ref a :: rest) (hf : kk + b ≤ (zz_R Z).cells ∧ nn + 5 * b ≤ (zz_R Z).slots) : cRun Z H locs kk nn b (5 * b) pc ls stk rest (cQr X μ H.size Q (Value.ref a :: [toV (aI l1), toV (aR l2)]).toArray) (cA X μ H.size) := by
  rcases hrc b a l1 l2 μ H.size Q hw with ⟨ht, rm, h, hM⟩ | ⟨ht, rm, h, hM⟩ | ⟨ht, rm, h, hM⟩
  · exact cr_U (x := ⟨"BinderPress$Term", "putIn", "(ILBinderPress$Term;)LBinderPress$Term;"⟩) (owner := "BinderPress$Term") (Cn := "BinderPress$Name") C hK hI hl 2 (cv_dyn hK hI (ci := 5) rfl (Or.inr (cdE_5 ht))) hM hlk (C.w _ q621) (va_Decl.abs (hK.1.2.2.1 _ (List.mem_of_getElem? (i := 46) rfl))) (C.w _ q625) q626 q94 q627 (by decide +kernel) ⟨h.1, h.2.1, Nat.le_trans h.2.2.1 hF, Nat.le_trans h.2.2.2 hN⟩ hW d hn hs hf
  · exact cr_U (x := ⟨"BinderPress$Term", "putIn", "(ILBinderPress$Term;)LBinderPress$Term;"⟩) (owner := "BinderPress$Term") (Cn := "BinderPress$Sign") C hK hI hl 2 (cv_dyn hK hI (ci := 6) rfl (Or.inr (cdE_6 ht))) hM hlk (C.w _ q621) (va_Decl.abs (hK.1.2.2.1 _ (List.mem_of_getElem? (i := 46) rfl))) (C.w _ q634) q632 q95 q633 (by decide +kernel) ⟨h.1, h.2.1, Nat.le_trans h.2.2.1 hF, Nat.le_trans h.2.2.2 hN⟩ hW d hn hs hf
  · exact cr_U (x := ⟨"BinderPress$Term", "putIn", "(ILBinderPress$Term;)LBinderPress$Term;"⟩) (owner := "BinderPress$Term") (Cn := "BinderPress$Put") C hK hI hl 2 (cv_dyn hK hI (ci := 7) rfl (Or.inr (cdE_7 ht))) hM hlk (C.w _ q621) (va_Decl.abs (hK.1.2.2.1 _ (List.mem_of_getElem? (i := 46) rfl))) (C.w _ q628) q629 q96 q630 (by decide +kernel) ⟨h.1, h.2.1, Nat.le_trans h.2.2.1 hF, Nat.le_trans h.2.2.2 hN⟩ hW d hn hs hf
def wc_X9_putIn_37 (X : cX) (rc : Nat → Nat → Int → Option Nat → CM → (Option Nat → CM → Prop) → Prop) (Q : Option Nat → CM → Prop) (s0 : Option Nat) (b : Nat) (μ : CM) : Prop := Q s0 μ
set_option maxHeartbeats 4000000 in
theorem sc_X9_putIn_37 {Z : zz} {X : cX} {μ0 : CM} {Q : Option Nat → CM → Prop} {rc : Nat → Nat → Int → Option Nat → CM → (Option Nat → CM → Prop) → Prop} {fr lo : Nat} (hA : 132 ≤ fr) (hB : 2642 ≤ lo) (C : gC Z cX9_putIn 3 RX9 (some (.object "BinderPress$Term")) (fr + 0) (lo + 0)) (hK : cCt Z X μ0) (hrc : rmet_V_putIn (zz_l Z) X fr lo rc) (hQ : zz_q Z = MQ (zz_b Z) (cQr X μ0 (zz_s Z).heap.size Q) (zz_a Z) (zz_s Z) (zz_R Z).cells (zz_R Z).slots (cA X μ0 (zz_s Z).heap.size))  : ∀ s0 b μ, wc_X9_putIn_37 X rc Q s0 b μ → ∀ kk nn, (kk + b ≤ (zz_R Z).cells ∧ nn + 5 * b ≤ (zz_R Z).slots) → hG Z 3 (cI Z X μ0 μ) kk nn 37 [] [aR s0] := by
  intro s0 b μ hw kk nn hb
  unfold wc_X9_putIn_37 at hw
  exact cx_aret C hQ (by omega) (by omega) (Or.inl ⟨_, rfl⟩) hw dX9_putIn_37
def wc_X9_putIn (X : cX) (rc : Nat → Nat → Int → Option Nat → CM → (Option Nat → CM → Prop) → Prop) (b : Nat) (l0 : Nat) (l1 : Int) (l2 : Option Nat) (μ : CM) (Q : Option Nat → CM → Prop) : Prop := tg μ l0 = 8 ∧ wc_X5_hasFree X l0 l1 μ (fun r1 μ2 => R32 r1 ∧ ((r1 = 0 → wc_X9_putIn_37 X rc  Q (some l0) b μ2) ∧ (¬ r1 = 0 → (1 ≤ b ∧ ∀ a6, tg μ2 a6 = 0 → tg (alc μ2 a6 8 0) l0 = 8 ∧ ∃ a10, (oR (alc μ2 a6 8 0) l0 0) = some a10 ∧ ∃ b12, b12 ≤ (b - 1) ∧ rc b12 a10 l1 l2 (alc μ2 a6 8 0) (fun r14 μ15 => (tg μ15 l0 = 8 ∧ ∃ a17, (oR μ15 l0 1) = some a17 ∧ ∃ b19, b19 ≤ ((b - 1) - b12) ∧ rc b19 a17 l1 l2 μ15 (fun r21 μ22 => wc_X9_init X a6 r14 r21 μ22 (fun μ24 => wc_X9_putIn_37 X rc  Q (some a6) (((b - 1) - b12) - b19) μ24))))))))
set_option maxHeartbeats 4000000 in
theorem sc_X9_putIn (l : Launch) (X : cX) (sz : Nat) (Q : Option Nat → CM → Prop) {rc : Nat → Nat → Int → Option Nat → CM → (Option Nat → CM → Prop) → Prop} {fr lo : Nat} (hA : 132 ≤ fr) (hB : 2642 ≤ lo) (hrc : rmet_V_putIn l X fr lo rc) (b : Nat) (l0 : Nat) (l1 : Int) (l2 : Option Nat) (μ : CM) (hw : wc_X9_putIn X rc b l0 l1 l2 μ Q) : Met l yX9_putIn (ws_ yX9_putIn cX9_putIn 3 (some (.object "BinderPress$Term"))) ({ frames := (fr + 0), cells := b, slots := 5 * b, locals := (lo + 0) }) (cPc X (([aR (some l0), aI l1, aR l2] : List AV).map toV) μ sz) (cQr X μ sz Q) b (5 * b) (cA X μ sz) := by
  refine cx_met2 (rm := ({ frames := (fr + 0), cells := b, slots := 5 * b, locals := (lo + 0) })) (As := [aR (some l0), aI l1, aR l2]) (L0 := [(0, aR (some l0)), (1, aI l1), (2, aR l2)]) (by decide) rfl (Nat.le_of_ble_eq_true rfl) rfl ?_
  intro Z C hK hsz hR hl0 hin hQ
  subst hsz
  have C : gC Z cX9_putIn 3 RX9 (some (.object "BinderPress$Term")) (fr + 0) (lo + 0) := C
  rw [← hl0] at hrc
  have hQ : zz_q Z = MQ (zz_b Z) (cQr X μ (zz_s Z).heap.size Q) (zz_a Z) (zz_s Z) (zz_R Z).cells (zz_R Z).slots (cA X μ (zz_s Z).heap.size) := by rw [hR]; exact hQ
  have hb : 0 + b ≤ (zz_R Z).cells ∧ 0 + 5 * b ≤ (zz_R Z).slots := by rw [hR]; exact ⟨by dsimp only; omega, by dsimp only; omega⟩
  unfold wc_X9_putIn at hw
  refine hx_aload_n C dX9_putIn_0 0 rfl rfl ?_
  refine hx_iload_n C dX9_putIn_1 1 rfl rfl ?_
  obtain ⟨ht3, hw⟩ := hw
  refine fun H locs hI ls hl => cx_ri (S := []) hI hl (fun _ h => h) (cr_U (x := ⟨"BinderPress$Put", "hasFree", "(I)Z"⟩) (owner := "BinderPress$Term") (Cn := "BinderPress$Put") (As := [toV (aI l1)]) (rest := []) C hK hI hl 1 (cv_dyn hK hI (ci := 7) rfl (Or.inr (cdE_7 ht3))) (sc_X5_hasFree _ X H.size _ _ _ _ hw) (C.w _ q543) (C.w _ q544) (va_Decl.abs (hK.1.2.2.1 _ (List.mem_of_getElem? (i := 45) rfl))) (C.w _ q546) q547 q92 q548 (by decide +kernel) ⟨rfl, rfl, by (dsimp only; omega), by (dsimp only; omega)⟩ (av_W [] 8 (Nat.le_of_ble_eq_true rfl)) dX9_putIn_2 rfl rfl ⟨by omega, by omega⟩) (fun r1 μ2 hw => ?_)
  obtain ⟨hr4, hw⟩ := hw
  refine hx_if_eq (tgt := 36) C dX9_putIn_5 (by decide) hr4 (fun h => ?_) (fun h => ?_)
  · have hw := hw.1 h
    refine hx_aload_n C dX9_putIn_36 0 rfl rfl ?_
    refine hx_L [] rfl ?_
    exact sc_X9_putIn_37 hA hB C hK hrc hQ  _ _ _ hw _ _ hb
  · have hw := hw.2 h
    obtain ⟨hu5, hw⟩ := hw
    refine cx_new (fs := fun a => coF_7 (alc μ2 a 8 0) a) C hK 7 8 rfl in_X9 tyX9_ok q524 q420 q96 (by decide) (fun a => cdE_7 alc_t) (cxd_7 _) (by omega) (by omega) dX9_putIn_8 (fun a6 hf7 => ?_)
    have hw := hw a6 hf7
    obtain hb : (0 + 1) + (b - 1) ≤ (zz_R Z).cells ∧ (0 + 5) + 5 * (b - 1) ≤ (zz_R Z).slots := ⟨by omega, by omega⟩
    have ht8 : tg (alc μ2 a6 8 0) a6 = 8 := alc_t
    refine hx_dup C dX9_putIn_11 rfl ?_
    refine hx_aload_n C dX9_putIn_12 0 rfl rfl ?_
    obtain ⟨ht9, hw⟩ := hw
    refine cx_get (μ := (alc μ2 a6 8 0)) (v := aR (oR (alc μ2 a6 8 0) l0 0)) C hK 7 0 rfl in_X9 (by decide) q459 rfl (cdE_7 ht9) rfl dX9_putIn_13 ?_
    refine hx_iload_n C dX9_putIn_16 1 rfl rfl ?_
    refine hx_aload_n C dX9_putIn_17 2 rfl rfl ?_
    obtain ⟨a10, ha11, hw⟩ := hw
    rw [ha11]
    obtain ⟨b12, hu13, hw⟩ := hw
    refine fun H locs hI ls hl => cx_rr (S := [aR (some a6), aR (some a6)]) hI hl (fun _ h => h) (dv_putIn (rest := [toV (aR (some a6)), toV (aR (some a6))]) C hK hI hl hrc hw (by omega) (by omega) (C.w _ q631) (av_W [aR (some a6), aR (some a6)] 8 (Nat.le_of_ble_eq_true rfl)) dX9_putIn_18 rfl rfl ⟨by omega, by omega⟩) (fun r14 μ15 hw => ?_)
    obtain hb : ((0 + 1) + b12) + ((b - 1) - b12) ≤ (zz_R Z).cells ∧ ((0 + 5) + 5 * b12) + 5 * ((b - 1) - b12) ≤ (zz_R Z).slots := ⟨by omega, by omega⟩
    refine hx_aload_n C dX9_putIn_21 0 rfl rfl ?_
    obtain ⟨ht16, hw⟩ := hw
    refine cx_get (μ := μ15) (v := aR (oR μ15 l0 1)) C hK 7 1 rfl in_X9 (by decide) q462 rfl (cdE_7 ht16) rfl dX9_putIn_22 ?_
    refine hx_iload_n C dX9_putIn_25 1 rfl rfl ?_
    refine hx_aload_n C dX9_putIn_26 2 rfl rfl ?_
    obtain ⟨a17, ha18, hw⟩ := hw
    rw [ha18]
    obtain ⟨b19, hu20, hw⟩ := hw
    refine fun H locs hI ls hl => cx_rr (S := [aR r14, aR (some a6), aR (some a6)]) hI hl (fun _ h => h) (dv_putIn (rest := [toV (aR r14), toV (aR (some a6)), toV (aR (some a6))]) C hK hI hl hrc hw (by omega) (by omega) (C.w _ q631) (av_W [aR r14, aR (some a6), aR (some a6)] 8 (Nat.le_of_ble_eq_true rfl)) dX9_putIn_27 rfl rfl ⟨by omega, by omega⟩) (fun r21 μ22 hw => ?_)
    obtain hb : (((0 + 1) + b12) + b19) + (((b - 1) - b12) - b19) ≤ (zz_R Z).cells ∧ (((0 + 5) + 5 * b12) + 5 * b19) + 5 * (((b - 1) - b12) - b19) ≤ (zz_R Z).slots := ⟨by omega, by omega⟩
    refine fun H locs hI ls hl => cx_rv (S := [aR (some a6)]) hI hl (fun _ h => h) (cr_I (a := a6) (As := [toV (aR r14), toV (aR r21)]) (rest := [toV (aR (some a6))]) C hK hI hl 2 (sc_X9_init _ X H.size _ _ _ _ _ hw) q528 q422 q96 q423 rfl (by decide +kernel) ⟨rfl, rfl, by (dsimp only; omega), by (dsimp only; omega)⟩ (av_W [aR (some a6)] 8 (Nat.le_of_ble_eq_true rfl)) dX9_putIn_30 rfl rfl ⟨by omega, by omega⟩) (fun μ24 hw => ?_)
    refine hx_goto (tgt := 37) C dX9_putIn_33 (by decide) ?_
    refine hx_L [] rfl ?_
    exact sc_X9_putIn_37 hA hB C hK hrc hQ  _ _ _ hw _ _ hb
-- putIn
def wd_putIn (X : cX) (rc : Nat → Nat → Int → Option Nat → CM → (Option Nat → CM → Prop) → Prop) : Nat → Nat → Int → Option Nat → CM → (Option Nat → CM → Prop) → Prop := fun b a l1 l2 μ Q => (tg μ a = 6 ∧ wc_X7_putIn X b a l1 l2 μ Q) ∨ (tg μ a = 7 ∧ wc_X8_putIn X b a l1 l2 μ Q) ∨ (tg μ a = 8 ∧ wc_X9_putIn X rc b a l1 l2 μ Q)
def wr_V_putIn (X : cX) : Nat → Nat → Nat → Int → Option Nat → CM → (Option Nat → CM → Prop) → Prop
  | 0 => fun _ _ _ _ _ _ => False
  | d + 1 => wd_putIn X (wr_V_putIn X d)
set_option maxHeartbeats 4000000 in
theorem rr_V_putIn (l : Launch) (X : cX) : ∀ d, rmet_V_putIn l X (132 + 1 * d) (2642 + 22 * d) (wr_V_putIn X d) := by
  intro d
  induction d with
  | zero => intro b a l1 l2 μ sz Q h; exact h.elim
  | succ d ih =>
    intro b a l1 l2 μ sz Q h
    rcases h with ⟨ht, hw⟩ | ⟨ht, hw⟩ | ⟨ht, hw⟩
    · exact Or.inl (⟨ht, _, ⟨rfl, rfl, by first | omega | (dsimp only; omega), by first | omega | (dsimp only; omega)⟩, sc_X7_putIn l X sz Q b _ _ _ _ hw⟩)
    · exact Or.inr (Or.inl (⟨ht, _, ⟨rfl, rfl, by first | omega | (dsimp only; omega), by first | omega | (dsimp only; omega)⟩, sc_X8_putIn l X sz Q b _ _ _ _ hw⟩))
    · exact Or.inr (Or.inr (⟨ht, _, ⟨rfl, rfl, by first | omega | (dsimp only; omega), by first | omega | (dsimp only; omega)⟩, sc_X9_putIn l X sz Q (by omega) (by omega) ih b _ _ _ _ hw⟩))
-- ('BinderPress$Term', 'isBinder', '()Z')
def wc_X5_isBinder (X : cX) (l0 : Nat) (μ : CM) (Q : Int → CM → Prop) : Prop := Q 0 μ
set_option maxHeartbeats 4000000 in
theorem sc_X5_isBinder (l : Launch) (X : cX) (sz : Nat) (Q : Int → CM → Prop) (l0 : Nat) (μ : CM) (hw : wc_X5_isBinder X l0 μ Q) : Met l yX5_isBinder (ws_ yX5_isBinder cX5_isBinder 1 (some .boolean)) ({ frames := 0, cells := 0, slots := 0, locals := 0 }) (cPc X (([aR (some l0)] : List AV).map toV) μ sz) (cQi X μ sz Q) 0 (0) (cA X μ sz) := by
  refine cx_met2 (rm := ({ frames := 0, cells := 0, slots := 0, locals := 0 })) (As := [aR (some l0)]) (L0 := [(0, aR (some l0))]) (by decide) rfl (Nat.le_of_ble_eq_true rfl) rfl ?_
  intro Z C hK hsz hR hl0 hin hQ
  subst hsz
  have C : gC Z cX5_isBinder 1 RX5 (some .boolean) 0 0 := C
  have hQ : zz_q Z = MQ (zz_b Z) (cQi X μ (zz_s Z).heap.size Q) (zz_a Z) (zz_s Z) (zz_R Z).cells (zz_R Z).slots (cA X μ (zz_s Z).heap.size) := by rw [hR]; exact hQ
  unfold wc_X5_isBinder at hw
  refine hx_iconst C dX5_isBinder_0 ?_
  exact cx_iret C hQ (by omega) (by omega) (mz_n (by decide)) hw dX5_isBinder_1
-- ('BinderPress$Binder', 'isBinder', '()Z')
def wc_X6_isBinder_12 (X : cX) (Q : Int → CM → Prop) (s0 : Int) (μ : CM) : Prop := (s0 = 0 ∨ s0 = 1) ∧ Q s0 μ
set_option maxHeartbeats 4000000 in
theorem sc_X6_isBinder_12 {Z : zz} {X : cX} {μ0 : CM} {Q : Int → CM → Prop} (C : gC Z cX6_isBinder 1 RX6 (some .boolean) 1 30) (hK : cCt Z X μ0) (hQ : zz_q Z = MQ (zz_b Z) (cQi X μ0 (zz_s Z).heap.size Q) (zz_a Z) (zz_s Z) (zz_R Z).cells (zz_R Z).slots (cA X μ0 (zz_s Z).heap.size))  : ∀ s0 μ, wc_X6_isBinder_12 X Q s0 μ → hG Z 1 (cI Z X μ0 μ) 0 0 12 [] [aI s0] := by
  intro s0 μ hw
  unfold wc_X6_isBinder_12 at hw
  obtain ⟨hz, hw⟩ := hw
  exact cx_iret C hQ (by omega) (by omega) (mz_n hz) hw dX6_isBinder_12
def wc_X6_isBinder (X : cX) (l0 : Nat) (μ : CM) (Q : Int → CM → Prop) : Prop := tg μ l0 = 5 ∧ wc_X5_isBinder X l0 μ (fun r1 μ2 => R32 r1 ∧ ((¬ r1 = 0 → wc_X6_isBinder_12 X   Q 0 μ2) ∧ (r1 = 0 → wc_X6_isBinder_12 X   Q 1 μ2)))
set_option maxHeartbeats 4000000 in
theorem sc_X6_isBinder (l : Launch) (X : cX) (sz : Nat) (Q : Int → CM → Prop) (l0 : Nat) (μ : CM) (hw : wc_X6_isBinder X l0 μ Q) : Met l yX6_isBinder (ws_ yX6_isBinder cX6_isBinder 1 (some .boolean)) ({ frames := 1, cells := 0, slots := 0, locals := 30 }) (cPc X (([aR (some l0)] : List AV).map toV) μ sz) (cQi X μ sz Q) 0 (0) (cA X μ sz) := by
  refine cx_met2 (rm := ({ frames := 1, cells := 0, slots := 0, locals := 30 })) (As := [aR (some l0)]) (L0 := [(0, aR (some l0))]) (by decide) rfl (Nat.le_of_ble_eq_true rfl) rfl ?_
  intro Z C hK hsz hR hl0 hin hQ
  subst hsz
  have C : gC Z cX6_isBinder 1 RX6 (some .boolean) 1 30 := C
  have hQ : zz_q Z = MQ (zz_b Z) (cQi X μ (zz_s Z).heap.size Q) (zz_a Z) (zz_s Z) (zz_R Z).cells (zz_R Z).slots (cA X μ (zz_s Z).heap.size) := by rw [hR]; exact hQ
  unfold wc_X6_isBinder at hw
  refine hx_aload_n C dX6_isBinder_0 0 rfl rfl ?_
  obtain ⟨ht3, hw⟩ := hw
  refine fun H locs hI ls hl => cx_ri (S := []) hI hl (fun _ h => h) (cr_SU (ci := 4) (As := []) (rest := []) C hK hI hl 0 rfl (Or.inr (cdE_4 ht3)) (sc_X5_isBinder _ X H.size _ _ _ hw) q992 q988 q386 q987 q92 q993 (by decide +kernel) ⟨rfl, rfl, Nat.le_of_ble_eq_true rfl, Nat.le_of_ble_eq_true rfl⟩ (av_W [] 8 (Nat.le_of_ble_eq_true rfl)) dX6_isBinder_1 rfl rfl ⟨by omega, by omega⟩) (fun r1 μ2 hw => ?_)
  obtain ⟨hr4, hw⟩ := hw
  refine hx_if_ne (tgt := 11) C dX6_isBinder_4 (by decide) hr4 (fun h => ?_) (fun h => ?_)
  · have hw := hw.1 h
    refine hx_iconst C dX6_isBinder_11 ?_
    refine hx_L [] rfl ?_
    exact sc_X6_isBinder_12 C hK hQ  _ _ hw
  · have hw := hw.2 h
    refine hx_iconst C dX6_isBinder_7 ?_
    refine hx_goto (tgt := 12) C dX6_isBinder_8 (by decide) ?_
    refine hx_L [] rfl ?_
    exact sc_X6_isBinder_12 C hK hQ  _ _ hw
-- isBinder
def rmet_V_isBinder (l : Launch) (X : cX) (fr lo : Nat) (rc : Nat → CM → (Int → CM → Prop) → Prop) : Prop := ∀ (a : Nat) (μ : CM) (sz : Nat) (Q : Int → CM → Prop), rc a μ Q → (tg μ a = 6 ∧ ∃ rm, crm rm 0 (0) fr lo 1 ∧ Met l yX5_isBinder (ws_ yX5_isBinder cX5_isBinder 1 (some .boolean)) rm (cPc X (([aR (some a)] : List AV).map toV) μ sz) (cQi X μ sz Q) 0 (0) (cA X μ sz)) ∨ (tg μ a = 7 ∧ ∃ rm, crm rm 0 (0) fr lo 1 ∧ Met l yX5_isBinder (ws_ yX5_isBinder cX5_isBinder 1 (some .boolean)) rm (cPc X (([aR (some a)] : List AV).map toV) μ sz) (cQi X μ sz Q) 0 (0) (cA X μ sz)) ∨ (tg μ a = 8 ∧ ∃ rm, crm rm 0 (0) fr lo 1 ∧ Met l yX5_isBinder (ws_ yX5_isBinder cX5_isBinder 1 (some .boolean)) rm (cPc X (([aR (some a)] : List AV).map toV) μ sz) (cQi X μ sz Q) 0 (0) (cA X μ sz)) ∨ (tg μ a = 5 ∧ ∃ rm, crm rm 0 (0) fr lo 1 ∧ Met l yX6_isBinder (ws_ yX6_isBinder cX6_isBinder 1 (some .boolean)) rm (cPc X (([aR (some a)] : List AV).map toV) μ sz) (cQi X μ sz Q) 0 (0) (cA X μ sz))
set_option maxHeartbeats 4000000 in
theorem dv_isBinder {Z : zz} {X : cX} {μ0 μ : CM} {cc : ByteArray} {nL : Nat} {own : String} {ret : Option FieldType} {F N kk nn pc : Nat} {H : Heap} {locs : List Loc} {ls : Array Slot} {lv : List (Nat × Value)} {stk rest : List Value} {index fr lo : Nat} {Q : Int → CM → Prop} {rc : Nat → CM → (Int → CM → Prop) → Prop} {a : Nat} (C : gC Z cc nL own ret F N) (hK : cCt Z X μ0) (hI : cI Z X μ0 μ H locs) (hl : lv_has ls nL lv) (hrc : rmet_V_isBinder (zz_l Z) X fr lo rc) (hw : rc a μ Q) (hF : fr ≤ F) (hN : lo ≤ N) (hlk : (Cond.methodLink own index ⟨"BinderPress$Term", "isBinder", "()Z"⟩).before (zz_a Z) (zz_s Z) = true) (hW : (rest.map fun v => v.category).sum ≤ 8) (d : decode cc pc = .ok (.invokevirtual index, 3)) (hn : ([] : List Value).length = 0) (hs : stk = ([] : List Value).reverse ++ .ref a :: rest) (hf : kk + 0 ≤ (zz_R Z).cells ∧ nn + 0 ≤ (zz_R Z).slots) : cRun Z H locs kk nn 0 (0) pc ls stk rest (cQi X μ H.size Q (Value.ref a :: []).toArray) (cA X μ H.size) := by
  rcases hrc a μ H.size Q hw with ⟨ht, rm, h, hM⟩ | ⟨ht, rm, h, hM⟩ | ⟨ht, rm, h, hM⟩ | ⟨ht, rm, h, hM⟩
  · exact cr_U (x := ⟨"BinderPress$Term", "isBinder", "()Z"⟩) (owner := "BinderPress$Term") (Cn := "BinderPress$Name") C hK hI hl 0 (cv_dyn hK hI (ci := 5) rfl (Or.inr (cdE_5 ht))) hM hlk (C.w _ q988) (va_Decl.of (C.w _ q987) (C.w _ q993)) (C.w _ q994) q987 q92 q993 (by decide +kernel) ⟨h.1, h.2.1, Nat.le_trans h.2.2.1 hF, Nat.le_trans h.2.2.2 hN⟩ hW d hn hs hf
  · exact cr_U (x := ⟨"BinderPress$Term", "isBinder", "()Z"⟩) (owner := "BinderPress$Term") (Cn := "BinderPress$Sign") C hK hI hl 0 (cv_dyn hK hI (ci := 6) rfl (Or.inr (cdE_6 ht))) hM hlk (C.w _ q988) (va_Decl.of (C.w _ q987) (C.w _ q993)) (C.w _ q996) q987 q92 q993 (by decide +kernel) ⟨h.1, h.2.1, Nat.le_trans h.2.2.1 hF, Nat.le_trans h.2.2.2 hN⟩ hW d hn hs hf
  · exact cr_U (x := ⟨"BinderPress$Term", "isBinder", "()Z"⟩) (owner := "BinderPress$Term") (Cn := "BinderPress$Put") C hK hI hl 0 (cv_dyn hK hI (ci := 7) rfl (Or.inr (cdE_7 ht))) hM hlk (C.w _ q988) (va_Decl.of (C.w _ q987) (C.w _ q993)) (C.w _ q995) q987 q92 q993 (by decide +kernel) ⟨h.1, h.2.1, Nat.le_trans h.2.2.1 hF, Nat.le_trans h.2.2.2 hN⟩ hW d hn hs hf
  · exact cr_U (x := ⟨"BinderPress$Term", "isBinder", "()Z"⟩) (owner := "BinderPress$Term") (Cn := "BinderPress$Binder") C hK hI hl 0 (cv_dyn hK hI (ci := 4) rfl (Or.inr (cdE_4 ht))) hM hlk (C.w _ q988) (va_Decl.of (C.w _ q987) (C.w _ q993)) (C.w _ q989) q990 q93 q991 (by decide +kernel) ⟨h.1, h.2.1, Nat.le_trans h.2.2.1 hF, Nat.le_trans h.2.2.2 hN⟩ hW d hn hs hf
def wv_isBinder (X : cX) : Nat → CM → (Int → CM → Prop) → Prop := fun a μ Q => (tg μ a = 6 ∧ wc_X5_isBinder X a μ Q) ∨ (tg μ a = 7 ∧ wc_X5_isBinder X a μ Q) ∨ (tg μ a = 8 ∧ wc_X5_isBinder X a μ Q) ∨ (tg μ a = 5 ∧ wc_X6_isBinder X a μ Q)
set_option maxHeartbeats 4000000 in
theorem rr_V_isBinder (l : Launch) (X : cX) : rmet_V_isBinder l X 2 50 (wv_isBinder X) := by
  intro a μ sz Q h
  rcases h with ⟨ht, hw⟩ | ⟨ht, hw⟩ | ⟨ht, hw⟩ | ⟨ht, hw⟩
  · exact Or.inl (⟨ht, _, ⟨rfl, rfl, by first | omega | (dsimp only; omega), by first | omega | (dsimp only; omega)⟩, sc_X5_isBinder l X sz Q _ _ hw⟩)
  · exact Or.inr (Or.inl (⟨ht, _, ⟨rfl, rfl, by first | omega | (dsimp only; omega), by first | omega | (dsimp only; omega)⟩, sc_X5_isBinder l X sz Q _ _ hw⟩))
  · exact Or.inr (Or.inr (Or.inl (⟨ht, _, ⟨rfl, rfl, by first | omega | (dsimp only; omega), by first | omega | (dsimp only; omega)⟩, sc_X5_isBinder l X sz Q _ _ hw⟩)))
  · exact Or.inr (Or.inr (Or.inr (⟨ht, _, ⟨rfl, rfl, by first | omega | (dsimp only; omega), by first | omega | (dsimp only; omega)⟩, sc_X6_isBinder l X sz Q _ _ hw⟩)))
-- ('BinderPress$Term', 'isBracketed', '()Z')
def wc_X5_isBracketed (X : cX) (l0 : Nat) (μ : CM) (Q : Int → CM → Prop) : Prop := Q 0 μ
set_option maxHeartbeats 4000000 in
theorem sc_X5_isBracketed (l : Launch) (X : cX) (sz : Nat) (Q : Int → CM → Prop) (l0 : Nat) (μ : CM) (hw : wc_X5_isBracketed X l0 μ Q) : Met l yX5_isBracketed (ws_ yX5_isBracketed cX5_isBracketed 1 (some .boolean)) ({ frames := 0, cells := 0, slots := 0, locals := 0 }) (cPc X (([aR (some l0)] : List AV).map toV) μ sz) (cQi X μ sz Q) 0 (0) (cA X μ sz) := by
  refine cx_met2 (rm := ({ frames := 0, cells := 0, slots := 0, locals := 0 })) (As := [aR (some l0)]) (L0 := [(0, aR (some l0))]) (by decide) rfl (Nat.le_of_ble_eq_true rfl) rfl ?_
  intro Z C hK hsz hR hl0 hin hQ
  subst hsz
  have C : gC Z cX5_isBracketed 1 RX5 (some .boolean) 0 0 := C
  have hQ : zz_q Z = MQ (zz_b Z) (cQi X μ (zz_s Z).heap.size Q) (zz_a Z) (zz_s Z) (zz_R Z).cells (zz_R Z).slots (cA X μ (zz_s Z).heap.size) := by rw [hR]; exact hQ
  unfold wc_X5_isBracketed at hw
  refine hx_iconst C dX5_isBracketed_0 ?_
  exact cx_iret C hQ (by omega) (by omega) (mz_n (by decide)) hw dX5_isBracketed_1
-- ('BinderPress$Put', 'isBracketed', '()Z')
def wc_X9_isBracketed (X : cX) (l0 : Nat) (μ : CM) (Q : Int → CM → Prop) : Prop := Q 1 μ
set_option maxHeartbeats 4000000 in
theorem sc_X9_isBracketed (l : Launch) (X : cX) (sz : Nat) (Q : Int → CM → Prop) (l0 : Nat) (μ : CM) (hw : wc_X9_isBracketed X l0 μ Q) : Met l yX9_isBracketed (ws_ yX9_isBracketed cX9_isBracketed 1 (some .boolean)) ({ frames := 0, cells := 0, slots := 0, locals := 0 }) (cPc X (([aR (some l0)] : List AV).map toV) μ sz) (cQi X μ sz Q) 0 (0) (cA X μ sz) := by
  refine cx_met2 (rm := ({ frames := 0, cells := 0, slots := 0, locals := 0 })) (As := [aR (some l0)]) (L0 := [(0, aR (some l0))]) (by decide) rfl (Nat.le_of_ble_eq_true rfl) rfl ?_
  intro Z C hK hsz hR hl0 hin hQ
  subst hsz
  have C : gC Z cX9_isBracketed 1 RX9 (some .boolean) 0 0 := C
  have hQ : zz_q Z = MQ (zz_b Z) (cQi X μ (zz_s Z).heap.size Q) (zz_a Z) (zz_s Z) (zz_R Z).cells (zz_R Z).slots (cA X μ (zz_s Z).heap.size) := by rw [hR]; exact hQ
  unfold wc_X9_isBracketed at hw
  refine hx_iconst C dX9_isBracketed_0 ?_
  exact cx_iret C hQ (by omega) (by omega) (mz_n (by decide)) hw dX9_isBracketed_1
-- ('BinderPress$Binder', 'isBracketed', '()Z')
def wc_X6_isBracketed (X : cX) (l0 : Nat) (μ : CM) (Q : Int → CM → Prop) : Prop := Q 1 μ
set_option maxHeartbeats 4000000 in
theorem sc_X6_isBracketed (l : Launch) (X : cX) (sz : Nat) (Q : Int → CM → Prop) (l0 : Nat) (μ : CM) (hw : wc_X6_isBracketed X l0 μ Q) : Met l yX6_isBracketed (ws_ yX6_isBracketed cX6_isBracketed 1 (some .boolean)) ({ frames := 0, cells := 0, slots := 0, locals := 0 }) (cPc X (([aR (some l0)] : List AV).map toV) μ sz) (cQi X μ sz Q) 0 (0) (cA X μ sz) := by
  refine cx_met2 (rm := ({ frames := 0, cells := 0, slots := 0, locals := 0 })) (As := [aR (some l0)]) (L0 := [(0, aR (some l0))]) (by decide) rfl (Nat.le_of_ble_eq_true rfl) rfl ?_
  intro Z C hK hsz hR hl0 hin hQ
  subst hsz
  have C : gC Z cX6_isBracketed 1 RX6 (some .boolean) 0 0 := C
  have hQ : zz_q Z = MQ (zz_b Z) (cQi X μ (zz_s Z).heap.size Q) (zz_a Z) (zz_s Z) (zz_R Z).cells (zz_R Z).slots (cA X μ (zz_s Z).heap.size) := by rw [hR]; exact hQ
  unfold wc_X6_isBracketed at hw
  refine hx_iconst C dX6_isBracketed_0 ?_
  exact cx_iret C hQ (by omega) (by omega) (mz_n (by decide)) hw dX6_isBracketed_1
-- isBracketed
def rmet_V_isBracketed (l : Launch) (X : cX) (fr lo : Nat) (rc : Nat → CM → (Int → CM → Prop) → Prop) : Prop := ∀ (a : Nat) (μ : CM) (sz : Nat) (Q : Int → CM → Prop), rc a μ Q → (tg μ a = 6 ∧ ∃ rm, crm rm 0 (0) fr lo 1 ∧ Met l yX5_isBracketed (ws_ yX5_isBracketed cX5_isBracketed 1 (some .boolean)) rm (cPc X (([aR (some a)] : List AV).map toV) μ sz) (cQi X μ sz Q) 0 (0) (cA X μ sz)) ∨ (tg μ a = 7 ∧ ∃ rm, crm rm 0 (0) fr lo 1 ∧ Met l yX5_isBracketed (ws_ yX5_isBracketed cX5_isBracketed 1 (some .boolean)) rm (cPc X (([aR (some a)] : List AV).map toV) μ sz) (cQi X μ sz Q) 0 (0) (cA X μ sz)) ∨ (tg μ a = 8 ∧ ∃ rm, crm rm 0 (0) fr lo 1 ∧ Met l yX9_isBracketed (ws_ yX9_isBracketed cX9_isBracketed 1 (some .boolean)) rm (cPc X (([aR (some a)] : List AV).map toV) μ sz) (cQi X μ sz Q) 0 (0) (cA X μ sz)) ∨ (tg μ a = 5 ∧ ∃ rm, crm rm 0 (0) fr lo 1 ∧ Met l yX6_isBracketed (ws_ yX6_isBracketed cX6_isBracketed 1 (some .boolean)) rm (cPc X (([aR (some a)] : List AV).map toV) μ sz) (cQi X μ sz Q) 0 (0) (cA X μ sz))
set_option maxHeartbeats 4000000 in
theorem dv_isBracketed {Z : zz} {X : cX} {μ0 μ : CM} {cc : ByteArray} {nL : Nat} {own : String} {ret : Option FieldType} {F N kk nn pc : Nat} {H : Heap} {locs : List Loc} {ls : Array Slot} {lv : List (Nat × Value)} {stk rest : List Value} {index fr lo : Nat} {Q : Int → CM → Prop} {rc : Nat → CM → (Int → CM → Prop) → Prop} {a : Nat} (C : gC Z cc nL own ret F N) (hK : cCt Z X μ0) (hI : cI Z X μ0 μ H locs) (hl : lv_has ls nL lv) (hrc : rmet_V_isBracketed (zz_l Z) X fr lo rc) (hw : rc a μ Q) (hF : fr ≤ F) (hN : lo ≤ N) (hlk : (Cond.methodLink own index ⟨"BinderPress$Term", "isBracketed", "()Z"⟩).before (zz_a Z) (zz_s Z) = true) (hW : (rest.map fun v => v.category).sum ≤ 8) (d : decode cc pc = .ok (.invokevirtual index, 3)) (hn : ([] : List Value).length = 0) (hs : stk = ([] : List Value).reverse ++ .ref a :: rest) (hf : kk + 0 ≤ (zz_R Z).cells ∧ nn + 0 ≤ (zz_R Z).slots) : cRun Z H locs kk nn 0 (0) pc ls stk rest (cQi X μ H.size Q (Value.ref a :: []).toArray) (cA X μ H.size) := by
  rcases hrc a μ H.size Q hw with ⟨ht, rm, h, hM⟩ | ⟨ht, rm, h, hM⟩ | ⟨ht, rm, h, hM⟩ | ⟨ht, rm, h, hM⟩
  · exact cr_U (x := ⟨"BinderPress$Term", "isBracketed", "()Z"⟩) (owner := "BinderPress$Term") (Cn := "BinderPress$Name") C hK hI hl 0 (cv_dyn hK hI (ci := 5) rfl (Or.inr (cdE_5 ht))) hM hlk (C.w _ q1048) (va_Decl.of (C.w _ q1047) (C.w _ q1057)) (C.w _ q1052) q1047 q92 q1057 (by decide +kernel) ⟨h.1, h.2.1, Nat.le_trans h.2.2.1 hF, Nat.le_trans h.2.2.2 hN⟩ hW d hn hs hf
  · exact cr_U (x := ⟨"BinderPress$Term", "isBracketed", "()Z"⟩) (owner := "BinderPress$Term") (Cn := "BinderPress$Sign") C hK hI hl 0 (cv_dyn hK hI (ci := 6) rfl (Or.inr (cdE_6 ht))) hM hlk (C.w _ q1048) (va_Decl.of (C.w _ q1047) (C.w _ q1057)) (C.w _ q1056) q1047 q92 q1057 (by decide +kernel) ⟨h.1, h.2.1, Nat.le_trans h.2.2.1 hF, Nat.le_trans h.2.2.2 hN⟩ hW d hn hs hf
  · exact cr_U (x := ⟨"BinderPress$Term", "isBracketed", "()Z"⟩) (owner := "BinderPress$Term") (Cn := "BinderPress$Put") C hK hI hl 0 (cv_dyn hK hI (ci := 7) rfl (Or.inr (cdE_7 ht))) hM hlk (C.w _ q1048) (va_Decl.of (C.w _ q1047) (C.w _ q1057)) (C.w _ q1053) q1054 q96 q1055 (by decide +kernel) ⟨h.1, h.2.1, Nat.le_trans h.2.2.1 hF, Nat.le_trans h.2.2.2 hN⟩ hW d hn hs hf
  · exact cr_U (x := ⟨"BinderPress$Term", "isBracketed", "()Z"⟩) (owner := "BinderPress$Term") (Cn := "BinderPress$Binder") C hK hI hl 0 (cv_dyn hK hI (ci := 4) rfl (Or.inr (cdE_4 ht))) hM hlk (C.w _ q1048) (va_Decl.of (C.w _ q1047) (C.w _ q1057)) (C.w _ q1049) q1050 q93 q1051 (by decide +kernel) ⟨h.1, h.2.1, Nat.le_trans h.2.2.1 hF, Nat.le_trans h.2.2.2 hN⟩ hW d hn hs hf
def wv_isBracketed (X : cX) : Nat → CM → (Int → CM → Prop) → Prop := fun a μ Q => (tg μ a = 6 ∧ wc_X5_isBracketed X a μ Q) ∨ (tg μ a = 7 ∧ wc_X5_isBracketed X a μ Q) ∨ (tg μ a = 8 ∧ wc_X9_isBracketed X a μ Q) ∨ (tg μ a = 5 ∧ wc_X6_isBracketed X a μ Q)
set_option maxHeartbeats 4000000 in
theorem rr_V_isBracketed (l : Launch) (X : cX) : rmet_V_isBracketed l X 1 20 (wv_isBracketed X) := by
  intro a μ sz Q h
  rcases h with ⟨ht, hw⟩ | ⟨ht, hw⟩ | ⟨ht, hw⟩ | ⟨ht, hw⟩
  · exact Or.inl (⟨ht, _, ⟨rfl, rfl, by first | omega | (dsimp only; omega), by first | omega | (dsimp only; omega)⟩, sc_X5_isBracketed l X sz Q _ _ hw⟩)
  · exact Or.inr (Or.inl (⟨ht, _, ⟨rfl, rfl, by first | omega | (dsimp only; omega), by first | omega | (dsimp only; omega)⟩, sc_X5_isBracketed l X sz Q _ _ hw⟩))
  · exact Or.inr (Or.inr (Or.inl (⟨ht, _, ⟨rfl, rfl, by first | omega | (dsimp only; omega), by first | omega | (dsimp only; omega)⟩, sc_X9_isBracketed l X sz Q _ _ hw⟩)))
  · exact Or.inr (Or.inr (Or.inr (⟨ht, _, ⟨rfl, rfl, by first | omega | (dsimp only; omega), by first | omega | (dsimp only; omega)⟩, sc_X6_isBracketed l X sz Q _ _ hw⟩)))
