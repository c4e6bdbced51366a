/-! rows of the component's memory -/
theorem cz_r {ty : FieldType} (h : ty.isReference = true) (r : Option Nat) : narrow ty (va_rf r) = va_rf r ∧ fits ty (va_rf r) = true := by
  cases r <;> cases ty <;> first | exact ⟨rfl, rfl⟩ | (cases h)
theorem coF_congr {μ μ' : CM} {b : Nat} (h3 : oI μ' b = oI μ b) (h4 : oR μ' b = oR μ b) : coF_2 μ' b = coF_2 μ b ∧ coF_3 μ' b = coF_3 μ b ∧ coF_4 μ' b = coF_4 μ b ∧ coF_5 μ' b = coF_5 μ b ∧ coF_6 μ' b = coF_6 μ b ∧ coF_7 μ' b = coF_7 μ b ∧ coF_8 μ' b = coF_8 μ b ∧ coF_9 μ' b = coF_9 μ b ∧ coF_10 μ' b = coF_10 μ b ∧ coF_11 μ' b = coF_11 μ b ∧ coF_12 μ' b = coF_12 μ b := by
  unfold coF_2 coF_3 coF_4 coF_5 coF_6 coF_7 coF_8 coF_9 coF_10 coF_11 coF_12
  rw [h3, h4]
  exact ⟨rfl, rfl, rfl, rfl, rfl, rfl, rfl, rfl, rfl, rfl, rfl⟩
theorem cdE_congr {X : cX} {μ μ' : CM} {b : Nat} (h1 : tg μ' b = tg μ b) (h2 : ln μ' b = ln μ b) (h3 : oI μ' b = oI μ b) (h4 : oR μ' b = oR μ b) : cdE X μ' b = cdE X μ b := by
  obtain ⟨e2, e3, e4, e5, e6, e7, e8, e9, e10, e11, e12⟩ := coF_congr h3 h4
  unfold cdE
  rw [h1, h2, h3, h4, e2, e3, e4, e5, e6, e7, e8, e9, e10, e11, e12]
theorem st_o {σ : MS} {a b k : Nat} {v : Int} (h : b ≠ a) : st σ a k v b = σ b := by
  funext j
  simp [st, h]
theorem stq_o {σ : Nat → Nat → Option Nat} {a b k : Nat} {v : Option Nat} (h : b ≠ a) : stq σ a k v b = σ b := by
  funext j
  simp [stq, h]
theorem poI_o {X : cX} {μ : CM} {a k : Nat} {v : Int} : ∀ b, b ≠ a → cdE X (poI μ a k v) b = cdE X μ b := fun _ h => cdE_congr rfl rfl (st_o h) rfl
theorem poR_o {X : cX} {μ : CM} {a k : Nat} {v : Option Nat} : ∀ b, b ≠ a → cdE X (poR μ a k v) b = cdE X μ b := fun _ h => cdE_congr rfl rfl rfl (stq_o h)
theorem cwn_c {μ μ' : CM} (ht : tg μ' = tg μ) {q : Nat} : cwn μ' q ↔ cwn μ q := by unfold cwn; rw [ht]
theorem cwf_c {μ μ' : CM} (ht : tg μ' = tg μ) (h : cwf μ) : cwf μ' := fun a ha => by
  have := h a (by rw [← ht]; exact ha)
  rw [cwn_c ht, ht]
  exact this
theorem cwn_not {μ : CM} {a : Nat} (h : cwn μ a) : ¬ (tg μ a = 14 ∨ tg μ a = 26) := by
  unfold cwn at h
  omega
theorem cst_o {μ0 μ μ' : CM} {a : Nat} (h : cst μ0 μ) (ha : cwn μ a) (ht : tg μ' = tg μ) (hl : ln μ' = ln μ) (hi : ∀ b, b ≠ a → oI μ' b = oI μ b) (hr : ∀ b, b ≠ a → oR μ' b = oR μ b) : cst μ0 μ' := by
  intro b hb
  rw [ht] at hb
  have hne : b ≠ a := fun e => cwn_not ha (e ▸ hb)
  obtain ⟨e1, e2, e3, e4⟩ := h b hb
  exact ⟨by rw [ht]; exact e1, by rw [hl]; exact e2, by rw [hi b hne]; exact e3, by rw [hr b hne]; exact e4⟩
theorem cst_s {μ0 μ μ' : CM} (h : cst μ0 μ) (ht : tg μ' = tg μ) (hl : ln μ' = ln μ) (hi : oI μ' = oI μ) (hr : oR μ' = oR μ) : cst μ0 μ' := by
  intro b hb
  rw [ht, hl, hi, hr] at *
  exact h b hb
section CX
variable {Z : zz} {X : cX} {μ0 μ μ' : CM} {cc : ByteArray} {nL : Nat} {own : String} {ret : Option FieldType} {F N kk nn pc : Nat} {L : List (Nat × AV)} {S : List AV}
theorem cx_get (C : gC Z cc nL own ret F N) (hK : cCt Z X μ0) (ci k : Nat) {Cn : String} {T : u_T} {Nn : Nat} (hc : cCl[ci]? = some (Cn, T, Nn)) (hin : ∀ w ∈ u_ws Cn T Nn, w ∈ lw_all) (hk : k < Nn) {index : Nat} {ref : String} (hq : Cond.fieldLink own index ref (T k).2.1 (T k).2.2.1 ∈ lw_all) (hs : (T k).1 = ref) {a : Nat} {fs : List Value} (he : cdE X μ a = some (.inr (ci, fs))) {v : AV} (hv : fs[k]? = some (toV v)) (d : decode cc pc = .ok (.getfield index, 3)) (K : hG Z nL (cI Z X μ0 μ) kk nn (pc + 3) L (v :: S)) : hG Z nL (cI Z X μ0 μ) kk nn pc L (aR (some a) :: S) := fun H locs hI ls hl => by
  obtain ⟨j, hj, -⟩ := cW_get hI.1 he
  exact va_get (ref := ref) C.x C.b C.w hin C.o hK.1.1 (hI.1.P H.size) (12 + j) hj hc k hk (C.w _ hq) (fun x h => by rw [hs] at h; exact h) hv d (K H locs hI ls hl)
theorem cx_getN (C : gC Z cc nL own ret F N) (hK : cCt Z X μ0) (ci k : Nat) {Cn : String} {T : u_T} {Nn : Nat} (hc : cCl[ci]? = some (Cn, T, Nn)) (hin : ∀ w ∈ u_ws Cn T Nn, w ∈ lw_all) (hk : k < Nn) {index : Nat} {ref host : String} (hq : Cond.fieldLinkNest own index ref (T k).2.1 (T k).2.2.1 host ∈ cNw) (hs : (T k).1 = ref) {a : Nat} {fs : List Value} (he : cdE X μ a = some (.inr (ci, fs))) {v : AV} (hv : fs[k]? = some (toV v)) (d : decode cc pc = .ok (.getfield index, 3)) (K : hG Z nL (cI Z X μ0 μ) kk nn (pc + 3) L (v :: S)) : hG Z nL (cI Z X μ0 μ) kk nn pc L (aR (some a) :: S) := fun H locs hI ls hl => by
  obtain ⟨j, hj, -⟩ := cW_get hI.1 he
  exact va_getN (ref := ref) C.x C.b C.w hin C.o hK.1.1 (hI.1.P H.size) (12 + j) hj hc k hk (va_Nw.use rfl (hK.1.2.2.1 _ hq)) (fun x h => by rw [hs] at h; exact h) hv d (K H locs hI ls hl)
/-- a field of the BinderPress or of its Work -/
theorem cx_getS (C : gC Z cc nL own ret F N) (hK : cCt Z X μ0) (ci k : Nat) {Cn : String} {T : u_T} {Nn : Nat} (hc : cCl[ci]? = some (Cn, T, Nn)) (hin : ∀ w ∈ u_ws Cn T Nn, w ∈ lw_all) (hk : k < Nn) {index : Nat} {ref : String} (hq : Cond.fieldLink own index ref (T k).2.1 (T k).2.2.1 ∈ lw_all) (hs : (T k).1 = ref) {a : Nat} {fs : List Value} (he : (csW X μ)[ci]? = some (a, .inr (ci, fs))) {v : AV} (hv : fs[k]? = some (toV v)) (d : decode cc pc = .ok (.getfield index, 3)) (K : hG Z nL (cI Z X μ0 μ) kk nn (pc + 3) L (v :: S)) : hG Z nL (cI Z X μ0 μ) kk nn pc L (aR (some a) :: S) := fun H locs hI ls hl =>
  va_get (ref := ref) C.x C.b C.w hin C.o hK.1.1 (hI.1.P H.size) ci (cW_at he) hc k hk (C.w _ hq) (fun x h => by rw [hs] at h; exact h) hv d (K H locs hI ls hl)
theorem cx_getSN (C : gC Z cc nL own ret F N) (hK : cCt Z X μ0) (ci k : Nat) {Cn : String} {T : u_T} {Nn : Nat} (hc : cCl[ci]? = some (Cn, T, Nn)) (hin : ∀ w ∈ u_ws Cn T Nn, w ∈ lw_all) (hk : k < Nn) {index : Nat} {ref host : String} (hq : Cond.fieldLinkNest own index ref (T k).2.1 (T k).2.2.1 host ∈ cNw) (hs : (T k).1 = ref) {a : Nat} {fs : List Value} (he : (csW X μ)[ci]? = some (a, .inr (ci, fs))) {v : AV} (hv : fs[k]? = some (toV v)) (d : decode cc pc = .ok (.getfield index, 3)) (K : hG Z nL (cI Z X μ0 μ) kk nn (pc + 3) L (v :: S)) : hG Z nL (cI Z X μ0 μ) kk nn pc L (aR (some a) :: S) := fun H locs hI ls hl =>
  va_getN (ref := ref) C.x C.b C.w hin C.o hK.1.1 (hI.1.P H.size) ci (cW_at he) hc k hk (va_Nw.use rfl (hK.1.2.2.1 _ hq)) (fun x h => by rw [hs] at h; exact h) hv d (K H locs hI ls hl)
theorem cI_dyn {H H1 : Heap} {locs locs1 : List Loc} {a j : Nat} {e e' : va_E} (hI : cI Z X μ0 μ H locs) (hj : (cdW X μ H.size)[j]? = some (a, e)) (hP : va_P (cX_D X) cCl ((cW X μ H.size).set (12 + j) (a, e')) H1) (hS : va_S (cA X μ0 (zz_s Z).heap.size) (zz_s Z).heap H1 locs1) (hs : csW X μ' = csW X μ) (ht : tg μ' = tg μ) (hl : ln μ' = ln μ) (hi : ∀ b, b ≠ a → oI μ' b = oI μ b) (hr : ∀ b, b ≠ a → oR μ' b = oR μ b) (ha : cdE X μ' a = some e') : cI Z X μ0 μ' H1 locs1 :=
  ⟨hI.1.dyn hj hP hs ht ha (fun b hb => cdE_congr (by rw [ht]) (by rw [hl]) (hi b hb) (hr b hb)), hS, fun q hq => hI.2.2.1 q ((cwn_c ht).mp hq), cst_o hI.2.2.2.1 (cdE_own (cdW_inv hj)) ht hl hi hr, cwf_c ht hI.2.2.2.2⟩
theorem cI_sta {H H1 : Heap} {locs locs1 : List Loc} {k : Nat} {x : Nat × va_E} (hI : cI Z X μ0 μ H locs) (hk : k < 12) (hP : va_P (cX_D X) cCl ((cW X μ H.size).set k x) H1) (hS : va_S (cA X μ0 (zz_s Z).heap.size) (zz_s Z).heap H1 locs1) (hs : (csW X μ).set k x = csW X μ') (ht : tg μ' = tg μ) (hl : ln μ' = ln μ) (hi : oI μ' = oI μ) (hr : oR μ' = oR μ) : cI Z X μ0 μ' H1 locs1 :=
  ⟨hI.1.sta hk hP hs ht (fun b => cdE_congr (by rw [ht]) (by rw [hl]) (by rw [hi]) (by rw [hr])), hS, fun q hq => hI.2.2.1 q ((cwn_c ht).mp hq), cst_s hI.2.2.2.1 ht hl hi hr, cwf_c ht hI.2.2.2.2⟩
theorem cI_D {H : Heap} {locs : List Loc} (hK : cCt Z X μ0) (hI : cI Z X μ0 μ H locs) : va_D (cA X μ0 (zz_s Z).heap.size) (cW X μ H.size) := (hI.1.D (sz := H.size) hK.1.2.1 H.size).weaken (fun _ q _ h => cA_sub hI q.1 h)
theorem cx_put (C : gC Z cc nL own ret F N) (hK : cCt Z X μ0) (ci k : Nat) {Cn : String} {T : u_T} {Nn : Nat} {ty0 : Nat → FieldType} (hc : cCl[ci]? = some (Cn, T, Nn)) (hin : ∀ w ∈ u_ws Cn T Nn, w ∈ lw_all) (hty : ∀ k, k < Nn → parseFieldDescriptor (T k).2.2.1 = some (ty0 k)) (hnm : ∀ a, a < Nn → ∀ b, b < Nn → a ≠ b → (T a).2.1 ≠ (T b).2.1) (hk : k < Nn) {index : Nat} {ref : String} (hq : Cond.fieldLink own index ref (T k).2.1 (T k).2.2.1 ∈ lw_all) (hs : (T k).1 = ref) (hfin : (T k).2.2.2 = false) {a : Nat} {fs fs' : List Value} (he : cdE X μ a = some (.inr (ci, fs))) (hlen : k < fs.length) {v : AV} (hn : narrow (ty0 k) (toV v) = toV v ∧ fits (ty0 k) (toV v) = true) (hset : fs.set k (toV v) = fs') (he' : cdE X μ' a = some (.inr (ci, fs'))) (hcs : csW X μ' = csW X μ) (ht : tg μ' = tg μ) (hl : ln μ' = ln μ) (hi : ∀ b, b ≠ a → oI μ' b = oI μ b) (hr : ∀ b, b ≠ a → oR μ' b = oR μ b) (d : decode cc pc = .ok (.putfield index, 3)) (K : hG Z nL (cI Z X μ0 μ') kk nn (pc + 3) L S) : hG Z nL (cI Z X μ0 μ) kk nn pc L (v :: aR (some a) :: S) := fun H locs hI ls hls => by
  obtain ⟨j, hj, hj2⟩ := cW_get hI.1 he
  exact va_put (ref := ref) C.x C.b C.w hin ty0 hty hnm C.o hK.1.1 (hI.1.P H.size) (cI_D hK hI) hI.2.1 (12 + j) hj hc k hk (C.w _ hq) (fun x h => by rw [hs] at h; exact h) hfin (hty k hk) hn.1 hn.2 hlen d (fun H1 locs1 hP _ hS => K H1 locs1 (cI_dyn hI hj2 (by rw [hset] at hP; exact hP) hS hcs ht hl hi hr he') ls hls)
/-- a final field, in the class's constructor -/
theorem cx_putF (C : gC Z cc nL own ret F N) (hK : cCt Z X μ0) (hini : (zz_t Z).name = "<init>") (ci k : Nat) {Cn : String} {T : u_T} {Nn : Nat} {ty0 : Nat → FieldType} (hc : cCl[ci]? = some (Cn, T, Nn)) (hin : ∀ w ∈ u_ws Cn T Nn, w ∈ lw_all) (hty : ∀ k, k < Nn → parseFieldDescriptor (T k).2.2.1 = some (ty0 k)) (hnm : ∀ a, a < Nn → ∀ b, b < Nn → a ≠ b → (T a).2.1 ≠ (T b).2.1) (hk : k < Nn) {index : Nat} {ref : String} (hq : Cond.fieldLink own index ref (T k).2.1 (T k).2.2.1 ∈ lw_all) (hs : (T k).1 = ref) (hfin : (T k).2.2.2 = true) (hdecl : (T k).1 = own) {a : Nat} {fs fs' : List Value} (he : cdE X μ a = some (.inr (ci, fs))) (hlen : k < fs.length) {v : AV} (hn : narrow (ty0 k) (toV v) = toV v ∧ fits (ty0 k) (toV v) = true) (hset : fs.set k (toV v) = fs') (he' : cdE X μ' a = some (.inr (ci, fs'))) (hcs : csW X μ' = csW X μ) (ht : tg μ' = tg μ) (hl : ln μ' = ln μ) (hi : ∀ b, b ≠ a → oI μ' b = oI μ b) (hr : ∀ b, b ≠ a → oR μ' b = oR μ b) (d : decode cc pc = .ok (.putfield index, 3)) (K : hG Z nL (cI Z X μ0 μ') kk nn (pc + 3) L S) : hG Z nL (cI Z X μ0 μ) kk nn pc L (v :: aR (some a) :: S) := fun H locs hI ls hls => by
  obtain ⟨j, hj, hj2⟩ := cW_get hI.1 he
  exact va_putF (ref := ref) C.x C.b C.w hin ty0 hty hnm C.o hK.1.1 (hI.1.P H.size) (cI_D hK hI) hI.2.1 (12 + j) hj hc k hk (C.w _ hq) (fun x h => by rw [hs] at h; exact h) hfin hini hdecl (hty k hk) hn.1 hn.2 hlen d (fun H1 locs1 hP _ hS => K H1 locs1 (cI_dyn hI hj2 (by rw [hset] at hP; exact hP) hS hcs ht hl hi hr he') ls hls)
theorem cx_putS (C : gC Z cc nL own ret F N) (hK : cCt Z X μ0) (ci k : Nat) {Cn : String} {T : u_T} {Nn : Nat} {ty0 : Nat → FieldType} (hci : ci < 12) (hc : cCl[ci]? = some (Cn, T, Nn)) (hin : ∀ w ∈ u_ws Cn T Nn, w ∈ lw_all) (hty : ∀ k, k < Nn → parseFieldDescriptor (T k).2.2.1 = some (ty0 k)) (hnm : ∀ a, a < Nn → ∀ b, b < Nn → a ≠ b → (T a).2.1 ≠ (T b).2.1) (hk : k < Nn) {index : Nat} {ref : String} (hq : Cond.fieldLink own index ref (T k).2.1 (T k).2.2.1 ∈ lw_all) (hs : (T k).1 = ref) (hfin : (T k).2.2.2 = false) {a : Nat} {fs : List Value} (he : (csW X μ)[ci]? = some (a, .inr (ci, fs))) (hlen : k < fs.length) {v : AV} (hn : narrow (ty0 k) (toV v) = toV v ∧ fits (ty0 k) (toV v) = true) (hset : (csW X μ).set ci (a, .inr (ci, fs.set k (toV v))) = csW X μ') (ht : tg μ' = tg μ) (hl : ln μ' = ln μ) (hi : oI μ' = oI μ) (hr : oR μ' = oR μ) (d : decode cc pc = .ok (.putfield index, 3)) (K : hG Z nL (cI Z X μ0 μ') kk nn (pc + 3) L S) : hG Z nL (cI Z X μ0 μ) kk nn pc L (v :: aR (some a) :: S) := fun H locs hI ls hls =>
  va_put (ref := ref) C.x C.b C.w hin ty0 hty hnm C.o hK.1.1 (hI.1.P H.size) (cI_D hK hI) hI.2.1 ci (cW_at he) hc k hk (C.w _ hq) (fun x h => by rw [hs] at h; exact h) hfin (hty k hk) hn.1 hn.2 hlen d (fun H1 locs1 hP _ hS => K H1 locs1 (cI_sta hI hci hP hS hset ht hl hi hr) ls hls)
/-- arrays of the BinderPress and its Work -/
theorem cx_iaS (C : gC Z cc nL own ret F N) (hK : cCt Z X μ0) (q0 k c : Nat) {len : Nat} (hp : (csW X μ)[q0]? = some (cX_a X k, .inl (cX_c X c, len, .inl (fun j => i32 (kI μ k j))))) (hc : c = 0) {i : Int} (h0 : 0 ≤ i) (h1 : i < (len : Int)) (hlen : len < 2147483648) (d : decode cc pc = .ok (.iaload, 1)) (K : hG Z nL (cI Z X μ0 μ) kk nn (pc + 1) L (aI (kI μ k i.toNat) :: S)) : hG Z nL (cI Z X μ0 μ) kk nn pc L (aI i :: aR (some (cX_a X k)) :: S) := fun H locs hI ls hl => by
  subst hc
  exact va_iald C.x C.b hK.1.1 (hI.1.P H.size) q0 0 (cW_at hp) rfl (i32_in h0 h1 hlen) d (by rw [i32_ix h0 h1 hlen]; exact K H locs hI ls hl)
theorem cx_baS (C : gC Z cc nL own ret F N) (hK : cCt Z X μ0) (q0 k c : Nat) {len : Nat} (hp : (csW X μ)[q0]? = some (cX_a X k, .inl (cX_c X c, len, .inl (fun j => i32 (kI μ k j))))) (hc : c = 1) {i : Int} (h0 : 0 ≤ i) (h1 : i < (len : Int)) (hlen : len < 2147483648) (d : decode cc pc = .ok (.baload, 1)) (K : hG Z nL (cI Z X μ0 μ) kk nn (pc + 1) L (aI (kI μ k i.toNat) :: S)) : hG Z nL (cI Z X μ0 μ) kk nn pc L (aI i :: aR (some (cX_a X k)) :: S) := fun H locs hI ls hl => by
  subst hc
  exact va_bald C.x C.b hK.1.1 (hI.1.P H.size) q0 1 (cW_at hp) rfl (i32_in h0 h1 hlen) d (by rw [i32_ix h0 h1 hlen]; exact K H locs hI ls hl)
theorem cx_isS (C : gC Z cc nL own ret F N) (hK : cCt Z X μ0) (q0 k c : Nat) (hq0 : q0 < 12) {len : Nat} (hp : (csW X μ)[q0]? = some (cX_a X k, .inl (cX_c X c, len, .inl (fun j => i32 (kI μ k j))))) (hc : c = 0) {i v : Int} (h0 : 0 ≤ i) (h1 : i < (len : Int)) (hlen : len < 2147483648) (d : decode cc pc = .ok (.iastore, 1)) (hset : (csW X μ).set q0 (cX_a X k, .inl (cX_c X c, len, .inl (upd (fun j => i32 (kI μ k j)) i.toNat (i32 v)))) = csW X (pkI μ k i.toNat v)) (K : hG Z nL (cI Z X μ0 (pkI μ k i.toNat v)) kk nn (pc + 1) L S) : hG Z nL (cI Z X μ0 μ) kk nn pc L (aI v :: aI i :: aR (some (cX_a X k)) :: S) := fun H locs hI ls hl => by
  subst hc
  exact va_iast C.x C.b hK.1.1 (hI.1.P H.size) (cI_D hK hI) hI.2.1 q0 0 (cW_at hp) rfl (i32_in h0 h1 hlen) d (fun H1 locs1 hP _ hS => K H1 locs1 (cI_sta hI hq0 (by rw [i32_ix h0 h1 hlen] at hP; exact hP) hS hset rfl rfl rfl rfl) ls hl)
theorem cx_ri {kk nn mc ms : Nat} {Q : Int → CM → Prop} {As : Array Value} {H : Heap} {locs : List Loc} {ls : Array Slot} {st0 : List Value} {free : Addr → Prop} (hI : cI Z X μ0 μ H locs) (hl : lv_has ls nL (toL L)) (hfree : ∀ q, free q → cA X μ H.size q) (hr : va_Run (zz_p Z) (zz_l Z) (zz_e Z) (zz_R Z) (zz_s Z) (zz_m Z) (zz_a Z) (zz_b Z) (zz_t Z) (zz_c Z) H locs kk nn mc ms (F0 (zz_m Z) pc ls st0) (S.map toV) (cQi X μ H.size Q As) free) (K : ∀ r μ', Q r μ' → hG Z nL (cI Z X μ0 μ') (kk + mc) (nn + ms) (pc + 3) L (aI r :: S)) : W (zz_p Z) (zz_l Z) (zz_e Z) (zz_R Z) (zz_s Z) (zz_m Z) (zz_a Z) (zz_b Z) (zz_t Z) (zz_c Z) H locs kk nn (zz_q Z) (F0 (zz_m Z) pc ls st0) :=
  va_calli hr hI.2.1 (fun q _ h => cA_sub hI q h) (fun q h => cA_sub hI q (hfree q h)) (fun r u t H1 locs1 ht hvm hp hB _ _ hS => by
    obtain ⟨e, hq1⟩ := hp
    rw [e]
    exact K u.1 u.2 hq1 H1 locs1 (cI_back hI ht hB hS) ls hl)
theorem cx_rr {kk nn mc ms : Nat} {Q : Option Nat → CM → Prop} {As : Array Value} {H : Heap} {locs : List Loc} {ls : Array Slot} {st0 : List Value} {free : Addr → Prop} (hI : cI Z X μ0 μ H locs) (hl : lv_has ls nL (toL L)) (hfree : ∀ q, free q → cA X μ H.size q) (hr : va_Run (zz_p Z) (zz_l Z) (zz_e Z) (zz_R Z) (zz_s Z) (zz_m Z) (zz_a Z) (zz_b Z) (zz_t Z) (zz_c Z) H locs kk nn mc ms (F0 (zz_m Z) pc ls st0) (S.map toV) (cQr X μ H.size Q As) free) (K : ∀ r μ', Q r μ' → hG Z nL (cI Z X μ0 μ') (kk + mc) (nn + ms) (pc + 3) L (aR r :: S)) : W (zz_p Z) (zz_l Z) (zz_e Z) (zz_R Z) (zz_s Z) (zz_m Z) (zz_a Z) (zz_b Z) (zz_t Z) (zz_c Z) H locs kk nn (zz_q Z) (F0 (zz_m Z) pc ls st0) :=
  va_callq hr hI.2.1 (fun q _ h => cA_sub hI q h) (fun q h => cA_sub hI q (hfree q h)) (fun r u t H1 locs1 ht hvm hp hB _ _ hS => K r u hp H1 locs1 (cI_back hI ht hB hS) ls hl)
theorem cx_rv {kk nn mc ms : Nat} {Q : CM → Prop} {As : Array Value} {H : Heap} {locs : List Loc} {ls : Array Slot} {st0 : List Value} {free : Addr → Prop} (hI : cI Z X μ0 μ H locs) (hl : lv_has ls nL (toL L)) (hfree : ∀ q, free q → cA X μ H.size q) (hr : va_Run (zz_p Z) (zz_l Z) (zz_e Z) (zz_R Z) (zz_s Z) (zz_m Z) (zz_a Z) (zz_b Z) (zz_t Z) (zz_c Z) H locs kk nn mc ms (F0 (zz_m Z) pc ls st0) (S.map toV) (cQv X μ H.size Q As) free) (K : ∀ μ', Q μ' → hG Z nL (cI Z X μ0 μ') (kk + mc) (nn + ms) (pc + 3) L S) : W (zz_p Z) (zz_l Z) (zz_e Z) (zz_R Z) (zz_s Z) (zz_m Z) (zz_a Z) (zz_b Z) (zz_t Z) (zz_c Z) H locs kk nn (zz_q Z) (F0 (zz_m Z) pc ls st0) :=
  va_callv hr hI.2.1 (fun q _ h => cA_sub hI q h) (fun q h => cA_sub hI q (hfree q h)) (fun u t H1 locs1 ht hvm hp hB _ _ hS => K u hp H1 locs1 (cI_back hI ht hB hS) ls hl)
end CX
