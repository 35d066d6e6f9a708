set_option maxRecDepth 100000
set_option maxHeartbeats 4000000 in
set_option maxRecDepth 100000 in
/-- nothing bad -/
theorem met_bad0 (l : Launch) (D : va_G) (E : Nat → ClassId) (h0 : Nat) (fs : List Value) (x : Int32) : Met l yX2_bad (ws_ yX2_bad cX2_bad 3 (some .boolean)) (rmD 1 0 0) (va_Pc [.ref h0, .int (nI 0), .int x] (xB D E [xo h0 1 fs])) (vp_Si (fun r => r = nI 0)) 0 0 (fun _ => False) := by
  refine Met.ofW (cc := cX2_bad) (maxL := 3) (ret := (some .boolean)) (by decide) rfl ?_
  intro p e s m args below meth c s₁ B hml hv0
  obtain ⟨rfl, hP, hK, hN⟩ := hv0
  have hx := B.exec
  have hb := B.bytes
  have hr := B.returns
  have hts := atoms_spec (ws := (ws_ yX2_bad cX2_bad 3 (some .boolean))) B.pre
  have hts : ∀ w ∈ lw_all, w.before _ s = true := fun w h => hts w (List.mem_cons_of_mem _ h)
  have hown : s.vm.findClass RX2 = some m.cls := findClass_of_methodNamed B.named
  have hlocks := B.notSynchronized
  have hP : va_P D vwCl [xo h0 1 fs] s.heap := hP
  have hl := lv_entry ([.ref h0, .int (nI 0), .int x]) (n := 3) (Nat.le_of_ble_eq_true rfl)
  rw [lg_entry_eq]
  generalize (lg_sl ([.ref h0, .int (nI 0), .int x]) ++ List.replicate (3 - (lg_sl ([.ref h0, .int (nI 0), .int x])).length) Slot.unset).toArray = ls at hl ⊢
  have hl : lv_has ls 3 [(0, .ref h0), (1, .int (nI 0)), (2, .int x)] := hl
  refine lv_iload_n hx hb dX2_bad_0 rfl (lv_at hl 1 rfl) ?_
  refine xi_if_eq (tgt := 9) hx hb (by omega) dX2_bad_1 (by decide) (fun c_1 => ?_) (fun c_1 => absurd c_1 (by decide))
  refine lv_iload_n hx hb dX2_bad_9 rfl (lv_at hl 1 rfl) ?_
  exact W.zret (v := nI 0) hx hb hr rfl (fun t9 ht9 hW9 => ⟨_, rfl, rfl, ht9⟩) t_nil dX2_bad_10
set_option maxHeartbeats 4000000 in
set_option maxRecDepth 100000 in
/-- something bad: it is noted -/
theorem met_bad1 (l : Launch) (D : va_G) (E : Nat → ClassId) (sz : Nat) (h0 : Nat) (fs : List Value) (x : Int32) (hlen : 0 < fs.length) : Met l yX2_bad (ws_ yX2_bad cX2_bad 3 (some .boolean)) (rmD 1 0 0) (va_Pc [.ref h0, .int (nI 1), .int x] (xQ D E [xo h0 1 fs] sz)) (va_Qi (fun r (_ : Unit) => r = nI 1) (fun (u : Unit) t8 => xR D E (va_A [xo h0 1 fs] sz) ((fun _ => [xo h0 1 (fs.set 0 (.int x))]) u) t8) (va_A [xo h0 1 fs] sz)) 0 0 (va_A [xo h0 1 fs] sz) := by
  refine Met.ofW (cc := cX2_bad) (maxL := 3) (ret := (some .boolean)) (by decide) rfl ?_
  intro p e s m args below meth c s₁ B hml hv0
  obtain ⟨rfl, hsz, hP, hK, hD0, hN⟩ := hv0
  have hx := B.exec
  have hb := B.bytes
  have hr := B.returns
  have hts := atoms_spec (ws := (ws_ yX2_bad cX2_bad 3 (some .boolean))) B.pre
  have hts : ∀ w ∈ lw_all, w.before _ s = true := fun w h => hts w (List.mem_cons_of_mem _ h)
  have hown : s.vm.findClass RX2 = some m.cls := findClass_of_methodNamed B.named
  have hlocks := B.notSynchronized
  subst hsz
  have hD := hD0.self (sz := s.heap.size)
  generalize hAe : va_A [xo h0 1 fs] s.heap.size = A at hD ⊢
  have hA : ∀ q : Nat, s.heap.size ≤ q → A q := fun q h => by rw [← hAe]; exact Or.inr h
  have hS : va_S A s.heap s.heap [] := va_S.rf
  have hP : va_P D vwCl [xo h0 1 fs] s.heap := hP
  have hD : va_D A [xo h0 1 fs] := hD
  have hl := lv_entry ([.ref h0, .int (nI 1), .int x]) (n := 3) (Nat.le_of_ble_eq_true rfl)
  rw [lg_entry_eq]
  generalize (lg_sl ([.ref h0, .int (nI 1), .int x]) ++ List.replicate (3 - (lg_sl ([.ref h0, .int (nI 1), .int x])).length) Slot.unset).toArray = ls at hl ⊢
  have hl : lv_has ls 3 [(0, .ref h0), (1, .int (nI 1)), (2, .int x)] := hl
  refine lv_iload_n hx hb dX2_bad_0 rfl (lv_at hl 1 rfl) ?_
  refine xi_if_eq (tgt := 9) hx hb (by omega) dX2_bad_1 (by decide) (fun c_1 => absurd c_1 (by decide)) (fun c_1 => ?_)
  refine lv_aload_n hx hb dX2_bad_4 rfl (lv_at hl 0 rfl) ?_
  refine lv_iload_n hx hb dX2_bad_5 rfl (lv_at hl 2 rfl) ?_
  refine va_put (D := D) (ci := 1) (v := .int x) (ty := .int) (C := RX2) (T := TX2) (N := 31) hx hb hts in_X2 tyX2 tyX2_ok nmX2 hown hK hP hD hS 0 rfl rfl 0 (by decide) (hts _ q933) (fun _ h9 => h9) rfl (by decide +kernel) rfl rfl hlen dX2_bad_6 (fun H_1 locs_1 hP hD hS => ?_)
  have hP : va_P D vwCl [xo h0 1 (fs.set 0 (.int x))] H_1 := hP
  have hD : va_D A [xo h0 1 (fs.set 0 (.int x))] := hD
  refine lv_iload_n hx hb dX2_bad_9 rfl (lv_at hl 1 rfl) ?_
  refine W.widen (k := 0) (n := 0) (Nat.le_of_ble_eq_true rfl) (Nat.le_of_ble_eq_true rfl) ?_
  exact W.zret (v := nI 1) hx hb hr rfl (fun t9 ht9 hW9 => ⟨⟨_, (), rfl, rfl, by rw [ht9]; exact hP, hD⟩, hS.F ht9⟩) hS.2.2 dX2_bad_10
set_option maxHeartbeats 4000000 in
set_option maxRecDepth 100000 in
/-- what was thrown last -/
theorem mm_thrown (l : Launch) (D : va_G) (E : Nat → ClassId) (mo : Nat) (th : Int32) (wd tk : Nat → Nat) (tn rd pl K G tu : Nat) (sg sp : Nat → Nat) (bt : Nat) (ts : Nat → Nat)  (w : va_W) (hw : MIs E mo th wd tk tn rd pl K G tu sg sp bt ts w)  : Met l yX2_thrown (ws_ yX2_thrown cX2_thrown 1 (some .int)) (rmD 1 0 0) (va_Pc [.ref mo] (xB D E w)) (vp_Si (fun r => r = th)) 0 0 (fun _ => False) := by
  obtain ⟨m1, m2, m4, m5, m8, m9, m14, m15, m16, m17, m20, m22, m23, m24, m25, m26, i6, i18, i19, i28, i29, i30, a1, a2, a4, a5, a8, a9, a14, a15, a16, a17, a20, a22, a23, a24, a25, a26, hw1, hw2, hw3, hw4, rfl⟩ := hw
  refine Met.ofW (cc := cX2_thrown) (maxL := 1) (ret := (some .int)) (by decide) rfl ?_
  intro p e s m args below meth c s₁ B hml hv0
  obtain ⟨rfl, hP, hK, hN⟩ := hv0
  have hx := B.exec
  have hb := B.bytes
  have hr := B.returns
  have hts := atoms_spec (ws := (ws_ yX2_thrown cX2_thrown 1 (some .int))) B.pre
  have hts : ∀ w ∈ lw_all, w.before _ s = true := fun w h => hts w (List.mem_cons_of_mem _ h)
  have hown : s.vm.findClass RX2 = some m.cls := findClass_of_methodNamed B.named
  have hlocks := B.notSynchronized
  have hP : va_P D vwCl [xo mo 1 [.int th, .ref m1, .ref m2, .int (nI tn), .ref m4, .ref m5, .int i6, .int (nI pl), .ref m8, .ref m9, .int (nI K), .int (nI G), .int (nI rd), .int (nI tu), .ref m14, .ref m15, .ref m16, .ref m17, .int i18, .int i19, .ref m20, .int (nI bt), .ref m22, .ref m23, .ref m24, .ref m25, .ref m26, .int (nI 0), .int i28, .int i29, .int i30], xi E 0 m1 12 a1, xi E 0 m2 120 a2, xi E 0 m4 2160 a4, xi E 0 m5 2160 a5, xi E 0 m8 189 a8, xi E 0 m9 180 a9, xi E 0 m14 20 a14, xi E 0 m15 20 a15, xi E 0 m16 9 a16, xi E 0 m17 9 a17, xi E 0 m20 20 a20, xi E 0 m22 100 a22, xi E 0 m23 100 a23, xi E 0 m24 100 a24, xi E 0 m25 100 a25, xi E 0 m26 100 a26] s.heap := hP
  have hl := lv_entry ([.ref mo]) (n := 1) (Nat.le_of_ble_eq_true rfl)
  rw [lg_entry_eq]
  generalize (lg_sl ([.ref mo]) ++ List.replicate (1 - (lg_sl ([.ref mo])).length) Slot.unset).toArray = ls at hl ⊢
  have hl : lv_has ls 1 [(0, .ref mo)] := hl
  refine lv_aload_n hx hb dX2_thrown_0 rfl (lv_at hl 0 rfl) ?_
  refine va_get (D := D) (ci := 1) (v := .int th) (C := RX2) (T := TX2) (N := 31) hx hb hts in_X2 hown hK hP 0 rfl rfl 0 (by decide) (hts _ q933) (fun _ h9 => h9) rfl dX2_thrown_1 ?_
  exact W.iret (v := th) hx hb hr (fun t9 ht9 hW9 => ⟨_, rfl, rfl, ht9⟩) t_nil dX2_thrown_4
set_option maxHeartbeats 4000000 in
set_option maxRecDepth 100000 in
/-- a tick is taken -/
theorem mm_tick (l : Launch) (D : va_G) (E : Nat → ClassId) (sz : Nat) (mo : Nat) (th : Int32) (wd tk : Nat → Nat) (tn rd pl K G tu : Nat) (sg sp : Nat → Nat) (bt : Nat) (ts : Nat → Nat) (x : Int32) (w : va_W) (hw : MIs E mo th wd tk tn rd pl K G tu sg sp bt ts w) (htn : tn < 120) : Met l yX2_tick (ws_ yX2_tick cX2_tick 2 (some .int)) (rmD 2 0 0) (va_Pc [.ref mo, .int x] (xQ D E w sz)) (va_Qi (fun r u => (inR 1 60 x → ∃ n, 1 ≤ n ∧ n ≤ 60 ∧ x = nI n ∧ r = nI (tn + 1) ∧ MIs E mo 0 wd (va_up tk tn n) (tn + 1) rd pl K G tu sg sp bt ts u) ∧ (¬ inR 1 60 x → MIs E mo 1 wd tk tn rd pl K G tu sg sp bt ts u)) (fun (u : va_W) t8 => xR D E (va_A w sz) ((fun u => u) u) t8) (va_A w sz)) 0 0 (va_A w sz) := by
  obtain ⟨m1, m2, m4, m5, m8, m9, m14, m15, m16, m17, m20, m22, m23, m24, m25, m26, i6, i18, i19, i28, i29, i30, a1, a2, a4, a5, a8, a9, a14, a15, a16, a17, a20, a22, a23, a24, a25, a26, hw1, hw2, hw3, hw4, rfl⟩ := hw
  refine Met.ofW (cc := cX2_tick) (maxL := 2) (ret := (some .int)) (by decide) rfl ?_
  intro p e s m args below meth c s₁ B hml hv0
  obtain ⟨rfl, hsz, hP, hK, hD0, hN⟩ := hv0
  have hx := B.exec
  have hb := B.bytes
  have hr := B.returns
  have hts := atoms_spec (ws := (ws_ yX2_tick cX2_tick 2 (some .int))) B.pre
  have hts : ∀ w ∈ lw_all, w.before _ s = true := fun w h => hts w (List.mem_cons_of_mem _ h)
  have hown : s.vm.findClass RX2 = some m.cls := findClass_of_methodNamed B.named
  have hlocks := B.notSynchronized
  subst hsz
  have hD := hD0.self (sz := s.heap.size)
  generalize hAe : va_A [xo mo 1 [.int th, .ref m1, .ref m2, .int (nI tn), .ref m4, .ref m5, .int i6, .int (nI pl), .ref m8, .ref m9, .int (nI K), .int (nI G), .int (nI rd), .int (nI tu), .ref m14, .ref m15, .ref m16, .ref m17, .int i18, .int i19, .ref m20, .int (nI bt), .ref m22, .ref m23, .ref m24, .ref m25, .ref m26, .int (nI 0), .int i28, .int i29, .int i30], xi E 0 m1 12 a1, xi E 0 m2 120 a2, xi E 0 m4 2160 a4, xi E 0 m5 2160 a5, xi E 0 m8 189 a8, xi E 0 m9 180 a9, xi E 0 m14 20 a14, xi E 0 m15 20 a15, xi E 0 m16 9 a16, xi E 0 m17 9 a17, xi E 0 m20 20 a20, xi E 0 m22 100 a22, xi E 0 m23 100 a23, xi E 0 m24 100 a24, xi E 0 m25 100 a25, xi E 0 m26 100 a26] s.heap.size = A at hD ⊢
  have hA : ∀ q : Nat, s.heap.size ≤ q → A q := fun q h => by rw [← hAe]; exact Or.inr h
  have hS : va_S A s.heap s.heap [] := va_S.rf
  have hP : va_P D vwCl [xo mo 1 [.int th, .ref m1, .ref m2, .int (nI tn), .ref m4, .ref m5, .int i6, .int (nI pl), .ref m8, .ref m9, .int (nI K), .int (nI G), .int (nI rd), .int (nI tu), .ref m14, .ref m15, .ref m16, .ref m17, .int i18, .int i19, .ref m20, .int (nI bt), .ref m22, .ref m23, .ref m24, .ref m25, .ref m26, .int (nI 0), .int i28, .int i29, .int i30], xi E 0 m1 12 a1, xi E 0 m2 120 a2, xi E 0 m4 2160 a4, xi E 0 m5 2160 a5, xi E 0 m8 189 a8, xi E 0 m9 180 a9, xi E 0 m14 20 a14, xi E 0 m15 20 a15, xi E 0 m16 9 a16, xi E 0 m17 9 a17, xi E 0 m20 20 a20, xi E 0 m22 100 a22, xi E 0 m23 100 a23, xi E 0 m24 100 a24, xi E 0 m25 100 a25, xi E 0 m26 100 a26] s.heap := hP
  have hD : va_D A [xo mo 1 [.int th, .ref m1, .ref m2, .int (nI tn), .ref m4, .ref m5, .int i6, .int (nI pl), .ref m8, .ref m9, .int (nI K), .int (nI G), .int (nI rd), .int (nI tu), .ref m14, .ref m15, .ref m16, .ref m17, .int i18, .int i19, .ref m20, .int (nI bt), .ref m22, .ref m23, .ref m24, .ref m25, .ref m26, .int (nI 0), .int i28, .int i29, .int i30], xi E 0 m1 12 a1, xi E 0 m2 120 a2, xi E 0 m4 2160 a4, xi E 0 m5 2160 a5, xi E 0 m8 189 a8, xi E 0 m9 180 a9, xi E 0 m14 20 a14, xi E 0 m15 20 a15, xi E 0 m16 9 a16, xi E 0 m17 9 a17, xi E 0 m20 20 a20, xi E 0 m22 100 a22, xi E 0 m23 100 a23, xi E 0 m24 100 a24, xi E 0 m25 100 a25, xi E 0 m26 100 a26] := hD
  have hl := lv_entry ([.ref mo, .int x]) (n := 2) (Nat.le_of_ble_eq_true rfl)
  rw [lg_entry_eq]
  generalize (lg_sl ([.ref mo, .int x]) ++ List.replicate (2 - (lg_sl ([.ref mo, .int x])).length) Slot.unset).toArray = ls at hl ⊢
  have hl : lv_has ls 2 [(0, .ref mo), (1, .int x)] := hl
  refine lv_aload_n hx hb dX2_tick_0 rfl (lv_at hl 0 rfl) ?_
  refine lv_iconst (v := nI 0) hx hb dX2_tick_1 (by decide) ?_
  refine va_put (D := D) (ci := 1) (v := .int (nI 0)) (ty := .int) (C := RX2) (T := TX2) (N := 31) hx hb hts in_X2 tyX2 tyX2_ok nmX2 hown hK hP hD hS 0 rfl rfl 0 (by decide) (hts _ q933) (fun _ h9 => h9) rfl (by decide +kernel) rfl rfl (Nat.le_of_ble_eq_true rfl) dX2_tick_2 (fun H_1 locs_1 hP hD hS => ?_)
  have hP : va_P D vwCl [xo mo 1 [.int (nI 0), .ref m1, .ref m2, .int (nI tn), .ref m4, .ref m5, .int i6, .int (nI pl), .ref m8, .ref m9, .int (nI K), .int (nI G), .int (nI rd), .int (nI tu), .ref m14, .ref m15, .ref m16, .ref m17, .int i18, .int i19, .ref m20, .int (nI bt), .ref m22, .ref m23, .ref m24, .ref m25, .ref m26, .int (nI 0), .int i28, .int i29, .int i30], xi E 0 m1 12 a1, xi E 0 m2 120 a2, xi E 0 m4 2160 a4, xi E 0 m5 2160 a5, xi E 0 m8 189 a8, xi E 0 m9 180 a9, xi E 0 m14 20 a14, xi E 0 m15 20 a15, xi E 0 m16 9 a16, xi E 0 m17 9 a17, xi E 0 m20 20 a20, xi E 0 m22 100 a22, xi E 0 m23 100 a23, xi E 0 m24 100 a24, xi E 0 m25 100 a25, xi E 0 m26 100 a26] H_1 := hP
  have hD : va_D A [xo mo 1 [.int (nI 0), .ref m1, .ref m2, .int (nI tn), .ref m4, .ref m5, .int i6, .int (nI pl), .ref m8, .ref m9, .int (nI K), .int (nI G), .int (nI rd), .int (nI tu), .ref m14, .ref m15, .ref m16, .ref m17, .int i18, .int i19, .ref m20, .int (nI bt), .ref m22, .ref m23, .ref m24, .ref m25, .ref m26, .int (nI 0), .int i28, .int i29, .int i30], xi E 0 m1 12 a1, xi E 0 m2 120 a2, xi E 0 m4 2160 a4, xi E 0 m5 2160 a5, xi E 0 m8 189 a8, xi E 0 m9 180 a9, xi E 0 m14 20 a14, xi E 0 m15 20 a15, xi E 0 m16 9 a16, xi E 0 m17 9 a17, xi E 0 m20 20 a20, xi E 0 m22 100 a22, xi E 0 m23 100 a23, xi E 0 m24 100 a24, xi E 0 m25 100 a25, xi E 0 m26 100 a26] := hD
  refine lv_aload_n hx hb dX2_tick_5 rfl (lv_at hl 0 rfl) ?_
  refine lv_iload_n hx hb dX2_tick_6 rfl (lv_at hl 1 rfl) ?_
  refine lv_iconst (v := nI 1) hx hb dX2_tick_7 (by decide) ?_
  refine lv_icmp_lt (tgt := 17) hx hb dX2_tick_8 (by decide) (fun c_8 => ?_) (fun c_8 => ?_)
  · have hbad : ¬ inR 1 60 x := inR_lo (by decide) c_8 (by decide)
    refine lv_iconst (v := nI 1) hx hb dX2_tick_17 (by decide) ?_
    refine lv_goto (tgt := 22) hx hb dX2_tick_18 (by decide) ?_
    refine lv_iconst (v := nI 1) hx hb dX2_tick_22 (by decide) ?_
    refine xq_Vi (n := 2) (As := [.int (nI 1), .int (nI 1)]) (rest := []) (ws := [xo mo 1 [.int (nI 0), .ref m1, .ref m2, .int (nI tn), .ref m4, .ref m5, .int i6, .int (nI pl), .ref m8, .ref m9, .int (nI K), .int (nI G), .int (nI rd), .int (nI tu), .ref m14, .ref m15, .ref m16, .ref m17, .int i18, .int i19, .ref m20, .int (nI bt), .ref m22, .ref m23, .ref m24, .ref m25, .ref m26, .int (nI 0), .int i28, .int i29, .int i30], xi E 0 m1 12 a1, xi E 0 m2 120 a2, xi E 0 m4 2160 a4, xi E 0 m5 2160 a5, xi E 0 m8 189 a8, xi E 0 m9 180 a9, xi E 0 m14 20 a14, xi E 0 m15 20 a15, xi E 0 m16 9 a16, xi E 0 m17 9 a17, xi E 0 m20 20 a20, xi E 0 m22 100 a22, xi E 0 m23 100 a23, xi E 0 m24 100 a24, xi E 0 m25 100 a25, xi E 0 m26 100 a26]) (tl := []) (wc := [xo mo 1 [.int (nI 0), .ref m1, .ref m2, .int (nI tn), .ref m4, .ref m5, .int i6, .int (nI pl), .ref m8, .ref m9, .int (nI K), .int (nI G), .int (nI rd), .int (nI tu), .ref m14, .ref m15, .ref m16, .ref m17, .int i18, .int i19, .ref m20, .int (nI bt), .ref m22, .ref m23, .ref m24, .ref m25, .ref m26, .int (nI 0), .int i28, .int i29, .int i30]]) (wr := [xi E 0 m1 12 a1, xi E 0 m2 120 a2, xi E 0 m4 2160 a4, xi E 0 m5 2160 a5, xi E 0 m8 189 a8, xi E 0 m9 180 a9, xi E 0 m14 20 a14, xi E 0 m15 20 a15, xi E 0 m16 9 a16, xi E 0 m17 9 a17, xi E 0 m20 20 a20, xi E 0 m22 100 a22, xi E 0 m23 100 a23, xi E 0 m24 100 a24, xi E 0 m25 100 a25, xi E 0 m26 100 a26]) (w3 := fun u => [xo mo 1 [.int (nI 1), .ref m1, .ref m2, .int (nI tn), .ref m4, .ref m5, .int i6, .int (nI pl), .ref m8, .ref m9, .int (nI K), .int (nI G), .int (nI rd), .int (nI tu), .ref m14, .ref m15, .ref m16, .ref m17, .int i18, .int i19, .ref m20, .int (nI bt), .ref m22, .ref m23, .ref m24, .ref m25, .ref m26, .int (nI 0), .int i28, .int i29, .int i30], xi E 0 m1 12 a1, xi E 0 m2 120 a2, xi E 0 m4 2160 a4, xi E 0 m5 2160 a5, xi E 0 m8 189 a8, xi E 0 m9 180 a9, xi E 0 m14 20 a14, xi E 0 m15 20 a15, xi E 0 m16 9 a16, xi E 0 m17 9 a17, xi E 0 m20 20 a20, xi E 0 m22 100 a22, xi E 0 m23 100 a23, xi E 0 m24 100 a24, xi E 0 m25 100 a25, xi E 0 m26 100 a26]) ⟨hx, hb, hml, hown, hts⟩ (met_bad1 l D E H_1.size mo [.int (nI 0), .ref m1, .ref m2, .int (nI tn), .ref m4, .ref m5, .int i6, .int (nI pl), .ref m8, .ref m9, .int (nI K), .int (nI G), .int (nI rd), .int (nI tu), .ref m14, .ref m15, .ref m16, .ref m17, .int i18, .int i19, .ref m20, .int (nI bt), .ref m22, .ref m23, .ref m24, .ref m25, .ref m26, .int (nI 0), .int i28, .int i29, .int i30] (nI 1) (Nat.le_of_ble_eq_true rfl)) (lw_V q1037 q1039 qs12 q50 q1040) (by decide +kernel) ⟨(Nat.le_of_ble_eq_true rfl), (Nat.le_of_ble_eq_true rfl)⟩ rfl rfl hK hN hP hD hS hA [0] [1, 2, 3, 4, 5, 6, 7, 8, 9, 10, 11, 12, 13, 14, 15, 16] [16, 0, 1, 2, 3, 4, 5, 6, 7, 8, 9, 10, 11, 12, 13, 14, 15] rfl rfl rfl rfl rfl (by decide) (fun _ => rfl) (q0 := 0) rfl rfl rfl rfl hl.1 rfl (Nat.le_of_ble_eq_true rfl) dX2_tick_23 ⟨(Nat.le_of_ble_eq_true rfl), (Nat.le_of_ble_eq_true rfl)⟩ (fun r_2 u_2 H_2 locs_2 h_2 hP hD hS => ?_)
    obtain ⟨u0_2, rfl⟩ : ∃ z, z = u_2 := ⟨_, rfl⟩
    have hP : va_P D vwCl [xo mo 1 [.int (nI 1), .ref m1, .ref m2, .int (nI tn), .ref m4, .ref m5, .int i6, .int (nI pl), .ref m8, .ref m9, .int (nI K), .int (nI G), .int (nI rd), .int (nI tu), .ref m14, .ref m15, .ref m16, .ref m17, .int i18, .int i19, .ref m20, .int (nI bt), .ref m22, .ref m23, .ref m24, .ref m25, .ref m26, .int (nI 0), .int i28, .int i29, .int i30], xi E 0 m1 12 a1, xi E 0 m2 120 a2, xi E 0 m4 2160 a4, xi E 0 m5 2160 a5, xi E 0 m8 189 a8, xi E 0 m9 180 a9, xi E 0 m14 20 a14, xi E 0 m15 20 a15, xi E 0 m16 9 a16, xi E 0 m17 9 a17, xi E 0 m20 20 a20, xi E 0 m22 100 a22, xi E 0 m23 100 a23, xi E 0 m24 100 a24, xi E 0 m25 100 a25, xi E 0 m26 100 a26] H_2 := hP
    have hD : va_D A [xo mo 1 [.int (nI 1), .ref m1, .ref m2, .int (nI tn), .ref m4, .ref m5, .int i6, .int (nI pl), .ref m8, .ref m9, .int (nI K), .int (nI G), .int (nI rd), .int (nI tu), .ref m14, .ref m15, .ref m16, .ref m17, .int i18, .int i19, .ref m20, .int (nI bt), .ref m22, .ref m23, .ref m24, .ref m25, .ref m26, .int (nI 0), .int i28, .int i29, .int i30], xi E 0 m1 12 a1, xi E 0 m2 120 a2, xi E 0 m4 2160 a4, xi E 0 m5 2160 a5, xi E 0 m8 189 a8, xi E 0 m9 180 a9, xi E 0 m14 20 a14, xi E 0 m15 20 a15, xi E 0 m16 9 a16, xi E 0 m17 9 a17, xi E 0 m20 20 a20, xi E 0 m22 100 a22, xi E 0 m23 100 a23, xi E 0 m24 100 a24, xi E 0 m25 100 a25, xi E 0 m26 100 a26] := hD
    subst h_2
    refine xi_if_eq (tgt := 31) hx hb (by omega) dX2_tick_26 (by decide) (fun c_26 => absurd c_26 (by decide)) (fun c_26 => ?_)
    refine lv_iconst (v := nI 0) hx hb dX2_tick_29 (by decide) ?_
    refine W.widen (k := 0) (n := 0) (Nat.le_of_ble_eq_true rfl) (Nat.le_of_ble_eq_true rfl) ?_
    exact W.iret (v := nI 0) hx hb hr (fun t9 ht9 hW9 => ⟨⟨_, [xo mo 1 [.int (nI 1), .ref m1, .ref m2, .int (nI tn), .ref m4, .ref m5, .int i6, .int (nI pl), .ref m8, .ref m9, .int (nI K), .int (nI G), .int (nI rd), .int (nI tu), .ref m14, .ref m15, .ref m16, .ref m17, .int i18, .int i19, .ref m20, .int (nI bt), .ref m22, .ref m23, .ref m24, .ref m25, .ref m26, .int (nI 0), .int i28, .int i29, .int i30], xi E 0 m1 12 a1, xi E 0 m2 120 a2, xi E 0 m4 2160 a4, xi E 0 m5 2160 a5, xi E 0 m8 189 a8, xi E 0 m9 180 a9, xi E 0 m14 20 a14, xi E 0 m15 20 a15, xi E 0 m16 9 a16, xi E 0 m17 9 a17, xi E 0 m20 20 a20, xi E 0 m22 100 a22, xi E 0 m23 100 a23, xi E 0 m24 100 a24, xi E 0 m25 100 a25, xi E 0 m26 100 a26], rfl, ⟨fun hc => absurd hc (hbad), fun _ => ⟨m1, m2, m4, m5, m8, m9, m14, m15, m16, m17, m20, m22, m23, m24, m25, m26, i6, i18, i19, i28, i29, i30, a1, a2, a4, a5, a8, a9, a14, a15, a16, a17, a20, a22, a23, a24, a25, a26, hw1, hw2, hw3, hw4, rfl⟩⟩, by rw [ht9]; exact hP, hD⟩, hS.F ht9⟩) hS.2.2 dX2_tick_30
  · refine lv_iload_n hx hb dX2_tick_11 rfl (lv_at hl 1 rfl) ?_
    refine lv_bipush (v := nI 60) hx hb dX2_tick_12 (by decide) ?_
    refine lv_icmp_le (tgt := 21) hx hb dX2_tick_14 (by decide) (fun c_14 => ?_) (fun c_14 => ?_)
    · have hok : inR 1 60 x := inR_mk (by decide) (by decide) c_8 c_14
      obtain ⟨n, hn1, hn2, rfl⟩ := id hok
      refine lv_iconst (v := nI 0) hx hb dX2_tick_21 (by decide) ?_
      refine lv_iconst (v := nI 1) hx hb dX2_tick_22 (by decide) ?_
      refine xs_Vi (n := 2) (As := [.int (nI 0), .int (nI 1)]) (rest := []) (ws := [xo mo 1 [.int (nI 0), .ref m1, .ref m2, .int (nI tn), .ref m4, .ref m5, .int i6, .int (nI pl), .ref m8, .ref m9, .int (nI K), .int (nI G), .int (nI rd), .int (nI tu), .ref m14, .ref m15, .ref m16, .ref m17, .int i18, .int i19, .ref m20, .int (nI bt), .ref m22, .ref m23, .ref m24, .ref m25, .ref m26, .int (nI 0), .int i28, .int i29, .int i30], xi E 0 m1 12 a1, xi E 0 m2 120 a2, xi E 0 m4 2160 a4, xi E 0 m5 2160 a5, xi E 0 m8 189 a8, xi E 0 m9 180 a9, xi E 0 m14 20 a14, xi E 0 m15 20 a15, xi E 0 m16 9 a16, xi E 0 m17 9 a17, xi E 0 m20 20 a20, xi E 0 m22 100 a22, xi E 0 m23 100 a23, xi E 0 m24 100 a24, xi E 0 m25 100 a25, xi E 0 m26 100 a26]) (tl := []) (wc := [xo mo 1 [.int (nI 0), .ref m1, .ref m2, .int (nI tn), .ref m4, .ref m5, .int i6, .int (nI pl), .ref m8, .ref m9, .int (nI K), .int (nI G), .int (nI rd), .int (nI tu), .ref m14, .ref m15, .ref m16, .ref m17, .int i18, .int i19, .ref m20, .int (nI bt), .ref m22, .ref m23, .ref m24, .ref m25, .ref m26, .int (nI 0), .int i28, .int i29, .int i30]]) ⟨hx, hb, hml, hown, hts⟩ (met_bad0 l D E mo [.int (nI 0), .ref m1, .ref m2, .int (nI tn), .ref m4, .ref m5, .int i6, .int (nI pl), .ref m8, .ref m9, .int (nI K), .int (nI G), .int (nI rd), .int (nI tu), .ref m14, .ref m15, .ref m16, .ref m17, .int i18, .int i19, .ref m20, .int (nI bt), .ref m22, .ref m23, .ref m24, .ref m25, .ref m26, .int (nI 0), .int i28, .int i29, .int i30] (nI 1)) (lw_V q1037 q1039 qs12 q50 q1040) (by decide +kernel) ⟨(Nat.le_of_ble_eq_true rfl), (Nat.le_of_ble_eq_true rfl)⟩ rfl rfl hK hN hP [0] rfl (q0 := 0) rfl rfl rfl rfl hl.1 rfl (Nat.le_of_ble_eq_true rfl) dX2_tick_23 ⟨(Nat.le_of_ble_eq_true rfl), (Nat.le_of_ble_eq_true rfl)⟩ (fun r_3 h_3 => ?_)
      subst h_3
      refine xi_if_eq (tgt := 31) hx hb (by omega) dX2_tick_26 (by decide) (fun c_26 => ?_) (fun c_26 => absurd c_26 (by decide))
      refine lv_aload_n hx hb dX2_tick_31 rfl (lv_at hl 0 rfl) ?_
      refine va_get (D := D) (ci := 1) (v := .int (nI tn)) (C := RX2) (T := TX2) (N := 31) hx hb hts in_X2 hown hK hP 0 rfl rfl 3 (by decide) (hts _ q936) (fun _ h9 => h9) rfl dX2_tick_32 ?_
      refine lv_bipush (v := nI 120) hx hb dX2_tick_35 (by decide) ?_
      refine xi_icmp_ne (tgt := 42) hx hb (by omega) (by omega) dX2_tick_37 (by decide) (fun c_37 => ?_) (fun c_37 => absurd c_37 (by omega))
      refine lv_aload_n hx hb dX2_tick_42 rfl (lv_at hl 0 rfl) ?_
      refine va_get (D := D) (ci := 1) (v := .ref m2) (C := RX2) (T := TX2) (N := 31) hx hb hts in_X2 hown hK hP 0 rfl rfl 2 (by decide) (hts _ q935) (fun _ h9 => h9) rfl dX2_tick_43 ?_
      refine lv_aload_n hx hb dX2_tick_46 rfl (lv_at hl 0 rfl) ?_
      refine va_get (D := D) (ci := 1) (v := .int (nI tn)) (C := RX2) (T := TX2) (N := 31) hx hb hts in_X2 hown hK hP 0 rfl rfl 3 (by decide) (hts _ q936) (fun _ h9 => h9) rfl dX2_tick_47 ?_
      refine lv_iload_n hx hb dX2_tick_50 rfl (lv_at hl 1 rfl) ?_
      refine xa_iast hx hb hK hP hD hS 2 rfl (by omega) (by omega) dX2_tick_51 (fun H_4 locs_4 hP hD hS => ?_)
      have hP : va_P D vwCl [xo mo 1 [.int (nI 0), .ref m1, .ref m2, .int (nI tn), .ref m4, .ref m5, .int i6, .int (nI pl), .ref m8, .ref m9, .int (nI K), .int (nI G), .int (nI rd), .int (nI tu), .ref m14, .ref m15, .ref m16, .ref m17, .int i18, .int i19, .ref m20, .int (nI bt), .ref m22, .ref m23, .ref m24, .ref m25, .ref m26, .int (nI 0), .int i28, .int i29, .int i30], xi E 0 m1 12 a1, xi E 0 m2 120 (upd a2 tn (nI n)), xi E 0 m4 2160 a4, xi E 0 m5 2160 a5, xi E 0 m8 189 a8, xi E 0 m9 180 a9, xi E 0 m14 20 a14, xi E 0 m15 20 a15, xi E 0 m16 9 a16, xi E 0 m17 9 a17, xi E 0 m20 20 a20, xi E 0 m22 100 a22, xi E 0 m23 100 a23, xi E 0 m24 100 a24, xi E 0 m25 100 a25, xi E 0 m26 100 a26] H_4 := hP
      have hD : va_D A [xo mo 1 [.int (nI 0), .ref m1, .ref m2, .int (nI tn), .ref m4, .ref m5, .int i6, .int (nI pl), .ref m8, .ref m9, .int (nI K), .int (nI G), .int (nI rd), .int (nI tu), .ref m14, .ref m15, .ref m16, .ref m17, .int i18, .int i19, .ref m20, .int (nI bt), .ref m22, .ref m23, .ref m24, .ref m25, .ref m26, .int (nI 0), .int i28, .int i29, .int i30], xi E 0 m1 12 a1, xi E 0 m2 120 (upd a2 tn (nI n)), xi E 0 m4 2160 a4, xi E 0 m5 2160 a5, xi E 0 m8 189 a8, xi E 0 m9 180 a9, xi E 0 m14 20 a14, xi E 0 m15 20 a15, xi E 0 m16 9 a16, xi E 0 m17 9 a17, xi E 0 m20 20 a20, xi E 0 m22 100 a22, xi E 0 m23 100 a23, xi E 0 m24 100 a24, xi E 0 m25 100 a25, xi E 0 m26 100 a26] := hD
      refine lv_aload_n hx hb dX2_tick_52 rfl (lv_at hl 0 rfl) ?_
      refine lv_dup hx hb dX2_tick_53 rfl ?_
      refine va_get (D := D) (ci := 1) (v := .int (nI tn)) (C := RX2) (T := TX2) (N := 31) hx hb hts in_X2 hown hK hP 0 rfl rfl 3 (by decide) (hts _ q936) (fun _ h9 => h9) rfl dX2_tick_54 ?_
      refine lv_iconst (v := nI 1) hx hb dX2_tick_57 (by decide) ?_
      refine xi_iadd hx hb dX2_tick_58 ?_
      refine va_put (D := D) (ci := 1) (v := .int (nI (tn + 1))) (ty := .int) (C := RX2) (T := TX2) (N := 31) hx hb hts in_X2 tyX2 tyX2_ok nmX2 hown hK hP hD hS 0 rfl rfl 3 (by decide) (hts _ q936) (fun _ h9 => h9) rfl (by decide +kernel) rfl rfl (Nat.le_of_ble_eq_true rfl) dX2_tick_59 (fun H_5 locs_5 hP hD hS => ?_)
      have hP : va_P D vwCl [xo mo 1 [.int (nI 0), .ref m1, .ref m2, .int (nI (tn + 1)), .ref m4, .ref m5, .int i6, .int (nI pl), .ref m8, .ref m9, .int (nI K), .int (nI G), .int (nI rd), .int (nI tu), .ref m14, .ref m15, .ref m16, .ref m17, .int i18, .int i19, .ref m20, .int (nI bt), .ref m22, .ref m23, .ref m24, .ref m25, .ref m26, .int (nI 0), .int i28, .int i29, .int i30], xi E 0 m1 12 a1, xi E 0 m2 120 (upd a2 tn (nI n)), xi E 0 m4 2160 a4, xi E 0 m5 2160 a5, xi E 0 m8 189 a8, xi E 0 m9 180 a9, xi E 0 m14 20 a14, xi E 0 m15 20 a15, xi E 0 m16 9 a16, xi E 0 m17 9 a17, xi E 0 m20 20 a20, xi E 0 m22 100 a22, xi E 0 m23 100 a23, xi E 0 m24 100 a24, xi E 0 m25 100 a25, xi E 0 m26 100 a26] H_5 := hP
      have hD : va_D A [xo mo 1 [.int (nI 0), .ref m1, .ref m2, .int (nI (tn + 1)), .ref m4, .ref m5, .int i6, .int (nI pl), .ref m8, .ref m9, .int (nI K), .int (nI G), .int (nI rd), .int (nI tu), .ref m14, .ref m15, .ref m16, .ref m17, .int i18, .int i19, .ref m20, .int (nI bt), .ref m22, .ref m23, .ref m24, .ref m25, .ref m26, .int (nI 0), .int i28, .int i29, .int i30], xi E 0 m1 12 a1, xi E 0 m2 120 (upd a2 tn (nI n)), xi E 0 m4 2160 a4, xi E 0 m5 2160 a5, xi E 0 m8 189 a8, xi E 0 m9 180 a9, xi E 0 m14 20 a14, xi E 0 m15 20 a15, xi E 0 m16 9 a16, xi E 0 m17 9 a17, xi E 0 m20 20 a20, xi E 0 m22 100 a22, xi E 0 m23 100 a23, xi E 0 m24 100 a24, xi E 0 m25 100 a25, xi E 0 m26 100 a26] := hD
      refine lv_aload_n hx hb dX2_tick_62 rfl (lv_at hl 0 rfl) ?_
      refine va_get (D := D) (ci := 1) (v := .int (nI (tn + 1))) (C := RX2) (T := TX2) (N := 31) hx hb hts in_X2 hown hK hP 0 rfl rfl 3 (by decide) (hts _ q936) (fun _ h9 => h9) rfl dX2_tick_63 ?_
      refine W.widen (k := 0) (n := 0) (Nat.le_of_ble_eq_true rfl) (Nat.le_of_ble_eq_true rfl) ?_
      exact W.iret (v := nI (tn + 1)) hx hb hr (fun t9 ht9 hW9 => ⟨⟨_, [xo mo 1 [.int (nI 0), .ref m1, .ref m2, .int (nI (tn + 1)), .ref m4, .ref m5, .int i6, .int (nI pl), .ref m8, .ref m9, .int (nI K), .int (nI G), .int (nI rd), .int (nI tu), .ref m14, .ref m15, .ref m16, .ref m17, .int i18, .int i19, .ref m20, .int (nI bt), .ref m22, .ref m23, .ref m24, .ref m25, .ref m26, .int (nI 0), .int i28, .int i29, .int i30], xi E 0 m1 12 a1, xi E 0 m2 120 (upd a2 tn (nI n)), xi E 0 m4 2160 a4, xi E 0 m5 2160 a5, xi E 0 m8 189 a8, xi E 0 m9 180 a9, xi E 0 m14 20 a14, xi E 0 m15 20 a15, xi E 0 m16 9 a16, xi E 0 m17 9 a17, xi E 0 m20 20 a20, xi E 0 m22 100 a22, xi E 0 m23 100 a23, xi E 0 m24 100 a24, xi E 0 m25 100 a25, xi E 0 m26 100 a26], rfl, ⟨fun _ => ⟨n, hn1, hn2, rfl, rfl, ⟨m1, m2, m4, m5, m8, m9, m14, m15, m16, m17, m20, m22, m23, m24, m25, m26, i6, i18, i19, i28, i29, i30, a1, upd a2 tn (nI n), a4, a5, a8, a9, a14, a15, a16, a17, a20, a22, a23, a24, a25, a26, hw1, up_step hw2, hw3, hw4, rfl⟩⟩, fun hc => absurd hok hc⟩, by rw [ht9]; exact hP, hD⟩, hS.F ht9⟩) hS.2.2 dX2_tick_66
    · have hbad : ¬ inR 1 60 x := inR_hi (by decide) c_14
      refine lv_iconst (v := nI 1) hx hb dX2_tick_17 (by decide) ?_
      refine lv_goto (tgt := 22) hx hb dX2_tick_18 (by decide) ?_
      refine lv_iconst (v := nI 1) hx hb dX2_tick_22 (by decide) ?_
      refine xq_Vi (n := 2) (As := [.int (nI 1), .int (nI 1)]) (rest := []) (ws := [xo mo 1 [.int (nI 0), .ref m1, .ref m2, .int (nI tn), .ref m4, .ref m5, .int i6, .int (nI pl), .ref m8, .ref m9, .int (nI K), .int (nI G), .int (nI rd), .int (nI tu), .ref m14, .ref m15, .ref m16, .ref m17, .int i18, .int i19, .ref m20, .int (nI bt), .ref m22, .ref m23, .ref m24, .ref m25, .ref m26, .int (nI 0), .int i28, .int i29, .int i30], xi E 0 m1 12 a1, xi E 0 m2 120 a2, xi E 0 m4 2160 a4, xi E 0 m5 2160 a5, xi E 0 m8 189 a8, xi E 0 m9 180 a9, xi E 0 m14 20 a14, xi E 0 m15 20 a15, xi E 0 m16 9 a16, xi E 0 m17 9 a17, xi E 0 m20 20 a20, xi E 0 m22 100 a22, xi E 0 m23 100 a23, xi E 0 m24 100 a24, xi E 0 m25 100 a25, xi E 0 m26 100 a26]) (tl := []) (wc := [xo mo 1 [.int (nI 0), .ref m1, .ref m2, .int (nI tn), .ref m4, .ref m5, .int i6, .int (nI pl), .ref m8, .ref m9, .int (nI K), .int (nI G), .int (nI rd), .int (nI tu), .ref m14, .ref m15, .ref m16, .ref m17, .int i18, .int i19, .ref m20, .int (nI bt), .ref m22, .ref m23, .ref m24, .ref m25, .ref m26, .int (nI 0), .int i28, .int i29, .int i30]]) (wr := [xi E 0 m1 12 a1, xi E 0 m2 120 a2, xi E 0 m4 2160 a4, xi E 0 m5 2160 a5, xi E 0 m8 189 a8, xi E 0 m9 180 a9, xi E 0 m14 20 a14, xi E 0 m15 20 a15, xi E 0 m16 9 a16, xi E 0 m17 9 a17, xi E 0 m20 20 a20, xi E 0 m22 100 a22, xi E 0 m23 100 a23, xi E 0 m24 100 a24, xi E 0 m25 100 a25, xi E 0 m26 100 a26]) (w3 := fun u => [xo mo 1 [.int (nI 1), .ref m1, .ref m2, .int (nI tn), .ref m4, .ref m5, .int i6, .int (nI pl), .ref m8, .ref m9, .int (nI K), .int (nI G), .int (nI rd), .int (nI tu), .ref m14, .ref m15, .ref m16, .ref m17, .int i18, .int i19, .ref m20, .int (nI bt), .ref m22, .ref m23, .ref m24, .ref m25, .ref m26, .int (nI 0), .int i28, .int i29, .int i30], xi E 0 m1 12 a1, xi E 0 m2 120 a2, xi E 0 m4 2160 a4, xi E 0 m5 2160 a5, xi E 0 m8 189 a8, xi E 0 m9 180 a9, xi E 0 m14 20 a14, xi E 0 m15 20 a15, xi E 0 m16 9 a16, xi E 0 m17 9 a17, xi E 0 m20 20 a20, xi E 0 m22 100 a22, xi E 0 m23 100 a23, xi E 0 m24 100 a24, xi E 0 m25 100 a25, xi E 0 m26 100 a26]) ⟨hx, hb, hml, hown, hts⟩ (met_bad1 l D E H_1.size mo [.int (nI 0), .ref m1, .ref m2, .int (nI tn), .ref m4, .ref m5, .int i6, .int (nI pl), .ref m8, .ref m9, .int (nI K), .int (nI G), .int (nI rd), .int (nI tu), .ref m14, .ref m15, .ref m16, .ref m17, .int i18, .int i19, .ref m20, .int (nI bt), .ref m22, .ref m23, .ref m24, .ref m25, .ref m26, .int (nI 0), .int i28, .int i29, .int i30] (nI 1) (Nat.le_of_ble_eq_true rfl)) (lw_V q1037 q1039 qs12 q50 q1040) (by decide +kernel) ⟨(Nat.le_of_ble_eq_true rfl), (Nat.le_of_ble_eq_true rfl)⟩ rfl rfl hK hN hP hD hS hA [0] [1, 2, 3, 4, 5, 6, 7, 8, 9, 10, 11, 12, 13, 14, 15, 16] [16, 0, 1, 2, 3, 4, 5, 6, 7, 8, 9, 10, 11, 12, 13, 14, 15] rfl rfl rfl rfl rfl (by decide) (fun _ => rfl) (q0 := 0) rfl rfl rfl rfl hl.1 rfl (Nat.le_of_ble_eq_true rfl) dX2_tick_23 ⟨(Nat.le_of_ble_eq_true rfl), (Nat.le_of_ble_eq_true rfl)⟩ (fun r_6 u_6 H_6 locs_6 h_6 hP hD hS => ?_)
      obtain ⟨u0_6, rfl⟩ : ∃ z, z = u_6 := ⟨_, rfl⟩
      have hP : va_P D vwCl [xo mo 1 [.int (nI 1), .ref m1, .ref m2, .int (nI tn), .ref m4, .ref m5, .int i6, .int (nI pl), .ref m8, .ref m9, .int (nI K), .int (nI G), .int (nI rd), .int (nI tu), .ref m14, .ref m15, .ref m16, .ref m17, .int i18, .int i19, .ref m20, .int (nI bt), .ref m22, .ref m23, .ref m24, .ref m25, .ref m26, .int (nI 0), .int i28, .int i29, .int i30], xi E 0 m1 12 a1, xi E 0 m2 120 a2, xi E 0 m4 2160 a4, xi E 0 m5 2160 a5, xi E 0 m8 189 a8, xi E 0 m9 180 a9, xi E 0 m14 20 a14, xi E 0 m15 20 a15, xi E 0 m16 9 a16, xi E 0 m17 9 a17, xi E 0 m20 20 a20, xi E 0 m22 100 a22, xi E 0 m23 100 a23, xi E 0 m24 100 a24, xi E 0 m25 100 a25, xi E 0 m26 100 a26] H_6 := hP
      have hD : va_D A [xo mo 1 [.int (nI 1), .ref m1, .ref m2, .int (nI tn), .ref m4, .ref m5, .int i6, .int (nI pl), .ref m8, .ref m9, .int (nI K), .int (nI G), .int (nI rd), .int (nI tu), .ref m14, .ref m15, .ref m16, .ref m17, .int i18, .int i19, .ref m20, .int (nI bt), .ref m22, .ref m23, .ref m24, .ref m25, .ref m26, .int (nI 0), .int i28, .int i29, .int i30], xi E 0 m1 12 a1, xi E 0 m2 120 a2, xi E 0 m4 2160 a4, xi E 0 m5 2160 a5, xi E 0 m8 189 a8, xi E 0 m9 180 a9, xi E 0 m14 20 a14, xi E 0 m15 20 a15, xi E 0 m16 9 a16, xi E 0 m17 9 a17, xi E 0 m20 20 a20, xi E 0 m22 100 a22, xi E 0 m23 100 a23, xi E 0 m24 100 a24, xi E 0 m25 100 a25, xi E 0 m26 100 a26] := hD
      subst h_6
      refine xi_if_eq (tgt := 31) hx hb (by omega) dX2_tick_26 (by decide) (fun c_26 => absurd c_26 (by decide)) (fun c_26 => ?_)
      refine lv_iconst (v := nI 0) hx hb dX2_tick_29 (by decide) ?_
      refine W.widen (k := 0) (n := 0) (Nat.le_of_ble_eq_true rfl) (Nat.le_of_ble_eq_true rfl) ?_
      exact W.iret (v := nI 0) hx hb hr (fun t9 ht9 hW9 => ⟨⟨_, [xo mo 1 [.int (nI 1), .ref m1, .ref m2, .int (nI tn), .ref m4, .ref m5, .int i6, .int (nI pl), .ref m8, .ref m9, .int (nI K), .int (nI G), .int (nI rd), .int (nI tu), .ref m14, .ref m15, .ref m16, .ref m17, .int i18, .int i19, .ref m20, .int (nI bt), .ref m22, .ref m23, .ref m24, .ref m25, .ref m26, .int (nI 0), .int i28, .int i29, .int i30], xi E 0 m1 12 a1, xi E 0 m2 120 a2, xi E 0 m4 2160 a4, xi E 0 m5 2160 a5, xi E 0 m8 189 a8, xi E 0 m9 180 a9, xi E 0 m14 20 a14, xi E 0 m15 20 a15, xi E 0 m16 9 a16, xi E 0 m17 9 a17, xi E 0 m20 20 a20, xi E 0 m22 100 a22, xi E 0 m23 100 a23, xi E 0 m24 100 a24, xi E 0 m25 100 a25, xi E 0 m26 100 a26], rfl, ⟨fun hc => absurd hc (hbad), fun _ => ⟨m1, m2, m4, m5, m8, m9, m14, m15, m16, m17, m20, m22, m23, m24, m25, m26, i6, i18, i19, i28, i29, i30, a1, a2, a4, a5, a8, a9, a14, a15, a16, a17, a20, a22, a23, a24, a25, a26, hw1, hw2, hw3, hw4, rfl⟩⟩, by rw [ht9]; exact hP, hD⟩, hS.F ht9⟩) hS.2.2 dX2_tick_30
