set_option maxRecDepth 100000
set_option maxHeartbeats 4000000 in
set_option maxRecDepth 100000 in
/-- a sign is taught -/
theorem mm_teach (l : Launch) (D : va_G) (E : Nat → ClassId) (sz : Nat) (mo : Nat) (th : Int32) (wd tk : Nat → Nat) (tn rd pl K G tu : Nat) (sg sp : Nat → Nat) (bt : Nat) (ts : Nat → Nat) (x y : Int32) (w : va_W) (hw : MIs E mo th wd tk tn rd pl K G tu sg sp bt ts w) (hwb : ∀ g, g < 12 → wd g < 2147483648) : Met l yX2_teach (ws_ yX2_teach cX2_teach 6 (some .int)) (rmD 2 0 0) (va_Pc [.ref mo, .int x, .int y] (xQ D E w sz)) (va_Qi (fun r u => (okT x y → ∃ g w, g < 12 ∧ x = nI g ∧ y = nI w ∧ okW6 w ∧ r = nI (if wd g = w then 0 else 1) ∧ MIs E mo 0 (va_up wd g w) tk tn rd pl K G tu sg sp bt ts u) ∧ (¬ okT x y → MIs E mo 1 wd tk tn rd pl K G tu sg sp bt ts u)) (fun (u : va_W) t8 => xR D E (va_A w sz) ((fun u => u) u) t8) (va_A w sz)) 0 0 (va_A w sz) := by
  obtain ⟨m1, m2, m4, m5, m8, m9, m14, m15, m16, m17, m20, m22, m23, m24, m25, m26, i6, i18, i19, i28, i29, i30, a1, a2, a4, a5, a8, a9, a14, a15, a16, a17, a20, a22, a23, a24, a25, a26, hw1, hw2, hw3, hw4, rfl⟩ := hw
  refine Met.ofW (cc := cX2_teach) (maxL := 6) (ret := (some .int)) (by decide) rfl ?_
  intro p e s m args below meth c s₁ B hml hv0
  obtain ⟨rfl, hsz, hP, hK, hD0, hN⟩ := hv0
  have hx := B.exec
  have hb := B.bytes
  have hr := B.returns
  have hts := atoms_spec (ws := (ws_ yX2_teach cX2_teach 6 (some .int))) B.pre
  have hts : ∀ w ∈ lw_all, w.before _ s = true := fun w h => hts w (List.mem_cons_of_mem _ h)
  have hown : s.vm.findClass RX2 = some m.cls := findClass_of_methodNamed B.named
  have hlocks := B.notSynchronized
  subst hsz
  have hD := hD0.self (sz := s.heap.size)
  generalize hAe : va_A [xo mo 1 [.int th, .ref m1, .ref m2, .int (nI tn), .ref m4, .ref m5, .int i6, .int (nI pl), .ref m8, .ref m9, .int (nI K), .int (nI G), .int (nI rd), .int (nI tu), .ref m14, .ref m15, .ref m16, .ref m17, .int i18, .int i19, .ref m20, .int (nI bt), .ref m22, .ref m23, .ref m24, .ref m25, .ref m26, .int (nI 0), .int i28, .int i29, .int i30], xi E 0 m1 12 a1, xi E 0 m2 120 a2, xi E 0 m4 2160 a4, xi E 0 m5 2160 a5, xi E 0 m8 189 a8, xi E 0 m9 180 a9, xi E 0 m14 20 a14, xi E 0 m15 20 a15, xi E 0 m16 9 a16, xi E 0 m17 9 a17, xi E 0 m20 20 a20, xi E 0 m22 100 a22, xi E 0 m23 100 a23, xi E 0 m24 100 a24, xi E 0 m25 100 a25, xi E 0 m26 100 a26] s.heap.size = A at hD ⊢
  have hA : ∀ q : Nat, s.heap.size ≤ q → A q := fun q h => by rw [← hAe]; exact Or.inr h
  have hS : va_S A s.heap s.heap [] := va_S.rf
  have hP : va_P D vwCl [xo mo 1 [.int th, .ref m1, .ref m2, .int (nI tn), .ref m4, .ref m5, .int i6, .int (nI pl), .ref m8, .ref m9, .int (nI K), .int (nI G), .int (nI rd), .int (nI tu), .ref m14, .ref m15, .ref m16, .ref m17, .int i18, .int i19, .ref m20, .int (nI bt), .ref m22, .ref m23, .ref m24, .ref m25, .ref m26, .int (nI 0), .int i28, .int i29, .int i30], xi E 0 m1 12 a1, xi E 0 m2 120 a2, xi E 0 m4 2160 a4, xi E 0 m5 2160 a5, xi E 0 m8 189 a8, xi E 0 m9 180 a9, xi E 0 m14 20 a14, xi E 0 m15 20 a15, xi E 0 m16 9 a16, xi E 0 m17 9 a17, xi E 0 m20 20 a20, xi E 0 m22 100 a22, xi E 0 m23 100 a23, xi E 0 m24 100 a24, xi E 0 m25 100 a25, xi E 0 m26 100 a26] s.heap := hP
  have hD : va_D A [xo mo 1 [.int th, .ref m1, .ref m2, .int (nI tn), .ref m4, .ref m5, .int i6, .int (nI pl), .ref m8, .ref m9, .int (nI K), .int (nI G), .int (nI rd), .int (nI tu), .ref m14, .ref m15, .ref m16, .ref m17, .int i18, .int i19, .ref m20, .int (nI bt), .ref m22, .ref m23, .ref m24, .ref m25, .ref m26, .int (nI 0), .int i28, .int i29, .int i30], xi E 0 m1 12 a1, xi E 0 m2 120 a2, xi E 0 m4 2160 a4, xi E 0 m5 2160 a5, xi E 0 m8 189 a8, xi E 0 m9 180 a9, xi E 0 m14 20 a14, xi E 0 m15 20 a15, xi E 0 m16 9 a16, xi E 0 m17 9 a17, xi E 0 m20 20 a20, xi E 0 m22 100 a22, xi E 0 m23 100 a23, xi E 0 m24 100 a24, xi E 0 m25 100 a25, xi E 0 m26 100 a26] := hD
  have hl := lv_entry ([.ref mo, .int x, .int y]) (n := 6) (Nat.le_of_ble_eq_true rfl)
  rw [lg_entry_eq]
  generalize (lg_sl ([.ref mo, .int x, .int y]) ++ List.replicate (6 - (lg_sl ([.ref mo, .int x, .int y])).length) Slot.unset).toArray = ls at hl ⊢
  have hl : lv_has ls 6 [(0, .ref mo), (1, .int x), (2, .int y)] := hl
  refine lv_aload_n hx hb dX2_teach_0 rfl (lv_at hl 0 rfl) ?_
  refine lv_iconst (v := nI 0) hx hb dX2_teach_1 (by decide) ?_
  refine va_put (D := D) (ci := 1) (v := .int (nI 0)) (ty := .int) (C := RX2) (T := TX2) (N := 31) hx hb hts in_X2 tyX2 tyX2_ok nmX2 hown hK hP hD hS 0 rfl rfl 0 (by decide) (hts _ q933) (fun _ h9 => h9) rfl (by decide +kernel) rfl rfl (Nat.le_of_ble_eq_true rfl) dX2_teach_2 (fun H_1 locs_1 hP hD hS => ?_)
  have hP : va_P D vwCl [xo mo 1 [.int (nI 0), .ref m1, .ref m2, .int (nI tn), .ref m4, .ref m5, .int i6, .int (nI pl), .ref m8, .ref m9, .int (nI K), .int (nI G), .int (nI rd), .int (nI tu), .ref m14, .ref m15, .ref m16, .ref m17, .int i18, .int i19, .ref m20, .int (nI bt), .ref m22, .ref m23, .ref m24, .ref m25, .ref m26, .int (nI 0), .int i28, .int i29, .int i30], xi E 0 m1 12 a1, xi E 0 m2 120 a2, xi E 0 m4 2160 a4, xi E 0 m5 2160 a5, xi E 0 m8 189 a8, xi E 0 m9 180 a9, xi E 0 m14 20 a14, xi E 0 m15 20 a15, xi E 0 m16 9 a16, xi E 0 m17 9 a17, xi E 0 m20 20 a20, xi E 0 m22 100 a22, xi E 0 m23 100 a23, xi E 0 m24 100 a24, xi E 0 m25 100 a25, xi E 0 m26 100 a26] H_1 := hP
  have hD : va_D A [xo mo 1 [.int (nI 0), .ref m1, .ref m2, .int (nI tn), .ref m4, .ref m5, .int i6, .int (nI pl), .ref m8, .ref m9, .int (nI K), .int (nI G), .int (nI rd), .int (nI tu), .ref m14, .ref m15, .ref m16, .ref m17, .int i18, .int i19, .ref m20, .int (nI bt), .ref m22, .ref m23, .ref m24, .ref m25, .ref m26, .int (nI 0), .int i28, .int i29, .int i30], xi E 0 m1 12 a1, xi E 0 m2 120 a2, xi E 0 m4 2160 a4, xi E 0 m5 2160 a5, xi E 0 m8 189 a8, xi E 0 m9 180 a9, xi E 0 m14 20 a14, xi E 0 m15 20 a15, xi E 0 m16 9 a16, xi E 0 m17 9 a17, xi E 0 m20 20 a20, xi E 0 m22 100 a22, xi E 0 m23 100 a23, xi E 0 m24 100 a24, xi E 0 m25 100 a25, xi E 0 m26 100 a26] := hD
  refine lv_iload_n hx hb dX2_teach_5 rfl (lv_at hl 1 rfl) ?_
  refine lv_if_lt (tgt := 27) hx hb dX2_teach_6 (by decide) (fun c_6 => ?_) (fun c_6 => ?_)
  · have hbad : ¬ okT x y := okT_x (inB_lo (by decide) c_6)
    refine lv_iconst (v := nI 1) hx hb dX2_teach_27 (by decide) ?_
    refine lv_goto (tgt := 32) hx hb dX2_teach_28 (by decide) ?_
    refine lv_istore_n (lv' := [(3, .int (nI 1)), (0, .ref mo), (1, .int x), (2, .int y)]) hx hb dX2_teach_32 rfl hl (by decide) rfl (fun ls hl => ?_)
    refine lv_iload_n hx hb dX2_teach_33 rfl (lv_at hl 3 rfl) ?_
    refine lv_istore (lv' := [(4, .int y), (3, .int (nI 1)), (0, .ref mo), (1, .int x), (2, .int y)]) hx hb dX2_teach_34 hl (by decide) rfl (fun ls hl => ?_)
    refine lv_iconst (v := nI 0) hx hb dX2_teach_36 (by decide) ?_
    refine lv_istore (lv' := [(5, .int (nI 0)), (4, .int y), (3, .int (nI 1)), (0, .ref mo), (1, .int x), (2, .int y)]) hx hb dX2_teach_37 hl (by decide) rfl (fun ls hl => ?_)
    refine lv_iload hx hb dX2_teach_39 (lv_at hl 0 rfl) ?_
    refine lv_bipush (v := nI 6) hx hb dX2_teach_41 (by decide) ?_
    refine xi_icmp_ge (tgt := 87) hx hb (by omega) (by omega) dX2_teach_43 (by decide) (fun c_43 => absurd c_43 (by decide)) (fun c_43 => ?_)
    refine lv_iload_n hx hb dX2_teach_46 rfl (lv_at hl 2 rfl) ?_
    refine xi_if_ne (tgt := 87) hx hb (by omega) dX2_teach_47 (by decide) (fun c_47 => ?_) (fun c_47 => absurd c_47 (by decide))
    refine lv_aload_n hx hb dX2_teach_87 rfl (lv_at hl 3 rfl) ?_
    refine lv_iload_n hx hb dX2_teach_88 rfl (lv_at hl 2 rfl) ?_
    refine lv_iconst (v := nI 1) hx hb dX2_teach_89 (by decide) ?_
    refine xq_Vi (n := 2) (As := [.int (nI 1), .int (nI 1)]) (rest := []) (ws := [xo mo 1 [.int (nI 0), .ref m1, .ref m2, .int (nI tn), .ref m4, .ref m5, .int i6, .int (nI pl), .ref m8, .ref m9, .int (nI K), .int (nI G), .int (nI rd), .int (nI tu), .ref m14, .ref m15, .ref m16, .ref m17, .int i18, .int i19, .ref m20, .int (nI bt), .ref m22, .ref m23, .ref m24, .ref m25, .ref m26, .int (nI 0), .int i28, .int i29, .int i30], xi E 0 m1 12 a1, xi E 0 m2 120 a2, xi E 0 m4 2160 a4, xi E 0 m5 2160 a5, xi E 0 m8 189 a8, xi E 0 m9 180 a9, xi E 0 m14 20 a14, xi E 0 m15 20 a15, xi E 0 m16 9 a16, xi E 0 m17 9 a17, xi E 0 m20 20 a20, xi E 0 m22 100 a22, xi E 0 m23 100 a23, xi E 0 m24 100 a24, xi E 0 m25 100 a25, xi E 0 m26 100 a26]) (tl := []) (wc := [xo mo 1 [.int (nI 0), .ref m1, .ref m2, .int (nI tn), .ref m4, .ref m5, .int i6, .int (nI pl), .ref m8, .ref m9, .int (nI K), .int (nI G), .int (nI rd), .int (nI tu), .ref m14, .ref m15, .ref m16, .ref m17, .int i18, .int i19, .ref m20, .int (nI bt), .ref m22, .ref m23, .ref m24, .ref m25, .ref m26, .int (nI 0), .int i28, .int i29, .int i30]]) (wr := [xi E 0 m1 12 a1, xi E 0 m2 120 a2, xi E 0 m4 2160 a4, xi E 0 m5 2160 a5, xi E 0 m8 189 a8, xi E 0 m9 180 a9, xi E 0 m14 20 a14, xi E 0 m15 20 a15, xi E 0 m16 9 a16, xi E 0 m17 9 a17, xi E 0 m20 20 a20, xi E 0 m22 100 a22, xi E 0 m23 100 a23, xi E 0 m24 100 a24, xi E 0 m25 100 a25, xi E 0 m26 100 a26]) (w3 := fun u => [xo mo 1 [.int (nI 1), .ref m1, .ref m2, .int (nI tn), .ref m4, .ref m5, .int i6, .int (nI pl), .ref m8, .ref m9, .int (nI K), .int (nI G), .int (nI rd), .int (nI tu), .ref m14, .ref m15, .ref m16, .ref m17, .int i18, .int i19, .ref m20, .int (nI bt), .ref m22, .ref m23, .ref m24, .ref m25, .ref m26, .int (nI 0), .int i28, .int i29, .int i30], xi E 0 m1 12 a1, xi E 0 m2 120 a2, xi E 0 m4 2160 a4, xi E 0 m5 2160 a5, xi E 0 m8 189 a8, xi E 0 m9 180 a9, xi E 0 m14 20 a14, xi E 0 m15 20 a15, xi E 0 m16 9 a16, xi E 0 m17 9 a17, xi E 0 m20 20 a20, xi E 0 m22 100 a22, xi E 0 m23 100 a23, xi E 0 m24 100 a24, xi E 0 m25 100 a25, xi E 0 m26 100 a26]) ⟨hx, hb, hml, hown, hts⟩ (met_bad1 l D E H_1.size mo [.int (nI 0), .ref m1, .ref m2, .int (nI tn), .ref m4, .ref m5, .int i6, .int (nI pl), .ref m8, .ref m9, .int (nI K), .int (nI G), .int (nI rd), .int (nI tu), .ref m14, .ref m15, .ref m16, .ref m17, .int i18, .int i19, .ref m20, .int (nI bt), .ref m22, .ref m23, .ref m24, .ref m25, .ref m26, .int (nI 0), .int i28, .int i29, .int i30] (nI 1) (Nat.le_of_ble_eq_true rfl)) (lw_V q1037 q1039 qs12 q50 q1040) (by decide +kernel) ⟨(Nat.le_of_ble_eq_true rfl), (Nat.le_of_ble_eq_true rfl)⟩ rfl rfl hK hN hP hD hS hA [0] [1, 2, 3, 4, 5, 6, 7, 8, 9, 10, 11, 12, 13, 14, 15, 16] [16, 0, 1, 2, 3, 4, 5, 6, 7, 8, 9, 10, 11, 12, 13, 14, 15] rfl rfl rfl rfl rfl (by decide) (fun _ => rfl) (q0 := 0) rfl rfl rfl rfl hl.1 rfl (Nat.le_of_ble_eq_true rfl) dX2_teach_90 ⟨(Nat.le_of_ble_eq_true rfl), (Nat.le_of_ble_eq_true rfl)⟩ (fun r_2 u_2 H_2 locs_2 h_2 hP hD hS => ?_)
    obtain ⟨u0_2, rfl⟩ : ∃ z, z = u_2 := ⟨_, rfl⟩
    have hP : va_P D vwCl [xo mo 1 [.int (nI 1), .ref m1, .ref m2, .int (nI tn), .ref m4, .ref m5, .int i6, .int (nI pl), .ref m8, .ref m9, .int (nI K), .int (nI G), .int (nI rd), .int (nI tu), .ref m14, .ref m15, .ref m16, .ref m17, .int i18, .int i19, .ref m20, .int (nI bt), .ref m22, .ref m23, .ref m24, .ref m25, .ref m26, .int (nI 0), .int i28, .int i29, .int i30], xi E 0 m1 12 a1, xi E 0 m2 120 a2, xi E 0 m4 2160 a4, xi E 0 m5 2160 a5, xi E 0 m8 189 a8, xi E 0 m9 180 a9, xi E 0 m14 20 a14, xi E 0 m15 20 a15, xi E 0 m16 9 a16, xi E 0 m17 9 a17, xi E 0 m20 20 a20, xi E 0 m22 100 a22, xi E 0 m23 100 a23, xi E 0 m24 100 a24, xi E 0 m25 100 a25, xi E 0 m26 100 a26] H_2 := hP
    have hD : va_D A [xo mo 1 [.int (nI 1), .ref m1, .ref m2, .int (nI tn), .ref m4, .ref m5, .int i6, .int (nI pl), .ref m8, .ref m9, .int (nI K), .int (nI G), .int (nI rd), .int (nI tu), .ref m14, .ref m15, .ref m16, .ref m17, .int i18, .int i19, .ref m20, .int (nI bt), .ref m22, .ref m23, .ref m24, .ref m25, .ref m26, .int (nI 0), .int i28, .int i29, .int i30], xi E 0 m1 12 a1, xi E 0 m2 120 a2, xi E 0 m4 2160 a4, xi E 0 m5 2160 a5, xi E 0 m8 189 a8, xi E 0 m9 180 a9, xi E 0 m14 20 a14, xi E 0 m15 20 a15, xi E 0 m16 9 a16, xi E 0 m17 9 a17, xi E 0 m20 20 a20, xi E 0 m22 100 a22, xi E 0 m23 100 a23, xi E 0 m24 100 a24, xi E 0 m25 100 a25, xi E 0 m26 100 a26] := hD
    subst h_2
    refine xi_if_eq (tgt := 98) hx hb (by omega) dX2_teach_93 (by decide) (fun c_93 => absurd c_93 (by decide)) (fun c_93 => ?_)
    refine lv_iconst (v := nI 0) hx hb dX2_teach_96 (by decide) ?_
    refine W.widen (k := 0) (n := 0) (Nat.le_of_ble_eq_true rfl) (Nat.le_of_ble_eq_true rfl) ?_
    exact W.iret (v := nI 0) hx hb hr (fun t9 ht9 hW9 => ⟨⟨_, [xo mo 1 [.int (nI 1), .ref m1, .ref m2, .int (nI tn), .ref m4, .ref m5, .int i6, .int (nI pl), .ref m8, .ref m9, .int (nI K), .int (nI G), .int (nI rd), .int (nI tu), .ref m14, .ref m15, .ref m16, .ref m17, .int i18, .int i19, .ref m20, .int (nI bt), .ref m22, .ref m23, .ref m24, .ref m25, .ref m26, .int (nI 0), .int i28, .int i29, .int i30], xi E 0 m1 12 a1, xi E 0 m2 120 a2, xi E 0 m4 2160 a4, xi E 0 m5 2160 a5, xi E 0 m8 189 a8, xi E 0 m9 180 a9, xi E 0 m14 20 a14, xi E 0 m15 20 a15, xi E 0 m16 9 a16, xi E 0 m17 9 a17, xi E 0 m20 20 a20, xi E 0 m22 100 a22, xi E 0 m23 100 a23, xi E 0 m24 100 a24, xi E 0 m25 100 a25, xi E 0 m26 100 a26], rfl, ⟨fun hc => absurd hc hbad, fun _ => ⟨m1, m2, m4, m5, m8, m9, m14, m15, m16, m17, m20, m22, m23, m24, m25, m26, i6, i18, i19, i28, i29, i30, a1, a2, a4, a5, a8, a9, a14, a15, a16, a17, a20, a22, a23, a24, a25, a26, hw1, hw2, hw3, hw4, rfl⟩⟩, by rw [ht9]; exact hP, hD⟩, hS.F ht9⟩) hS.2.2 dX2_teach_97
  · refine lv_iload_n hx hb dX2_teach_9 rfl (lv_at hl 1 rfl) ?_
    refine lv_bipush (v := nI 12) hx hb dX2_teach_10 (by decide) ?_
    refine lv_icmp_ge (tgt := 27) hx hb dX2_teach_12 (by decide) (fun c_12 => ?_) (fun c_12 => ?_)
    · have hbad : ¬ okT x y := okT_x (inB_hi (by decide) c_12)
      refine lv_iconst (v := nI 1) hx hb dX2_teach_27 (by decide) ?_
      refine lv_goto (tgt := 32) hx hb dX2_teach_28 (by decide) ?_
      refine lv_istore_n (lv' := [(3, .int (nI 1)), (0, .ref mo), (1, .int x), (2, .int y)]) hx hb dX2_teach_32 rfl hl (by decide) rfl (fun ls hl => ?_)
      refine lv_iload_n hx hb dX2_teach_33 rfl (lv_at hl 3 rfl) ?_
      refine lv_istore (lv' := [(4, .int y), (3, .int (nI 1)), (0, .ref mo), (1, .int x), (2, .int y)]) hx hb dX2_teach_34 hl (by decide) rfl (fun ls hl => ?_)
      refine lv_iconst (v := nI 0) hx hb dX2_teach_36 (by decide) ?_
      refine lv_istore (lv' := [(5, .int (nI 0)), (4, .int y), (3, .int (nI 1)), (0, .ref mo), (1, .int x), (2, .int y)]) hx hb dX2_teach_37 hl (by decide) rfl (fun ls hl => ?_)
      refine lv_iload hx hb dX2_teach_39 (lv_at hl 0 rfl) ?_
      refine lv_bipush (v := nI 6) hx hb dX2_teach_41 (by decide) ?_
      refine xi_icmp_ge (tgt := 87) hx hb (by omega) (by omega) dX2_teach_43 (by decide) (fun c_43 => absurd c_43 (by decide)) (fun c_43 => ?_)
      refine lv_iload_n hx hb dX2_teach_46 rfl (lv_at hl 2 rfl) ?_
      refine xi_if_ne (tgt := 87) hx hb (by omega) dX2_teach_47 (by decide) (fun c_47 => ?_) (fun c_47 => absurd c_47 (by decide))
      refine lv_aload_n hx hb dX2_teach_87 rfl (lv_at hl 3 rfl) ?_
      refine lv_iload_n hx hb dX2_teach_88 rfl (lv_at hl 2 rfl) ?_
      refine lv_iconst (v := nI 1) hx hb dX2_teach_89 (by decide) ?_
      refine xq_Vi (n := 2) (As := [.int (nI 1), .int (nI 1)]) (rest := []) (ws := [xo mo 1 [.int (nI 0), .ref m1, .ref m2, .int (nI tn), .ref m4, .ref m5, .int i6, .int (nI pl), .ref m8, .ref m9, .int (nI K), .int (nI G), .int (nI rd), .int (nI tu), .ref m14, .ref m15, .ref m16, .ref m17, .int i18, .int i19, .ref m20, .int (nI bt), .ref m22, .ref m23, .ref m24, .ref m25, .ref m26, .int (nI 0), .int i28, .int i29, .int i30], xi E 0 m1 12 a1, xi E 0 m2 120 a2, xi E 0 m4 2160 a4, xi E 0 m5 2160 a5, xi E 0 m8 189 a8, xi E 0 m9 180 a9, xi E 0 m14 20 a14, xi E 0 m15 20 a15, xi E 0 m16 9 a16, xi E 0 m17 9 a17, xi E 0 m20 20 a20, xi E 0 m22 100 a22, xi E 0 m23 100 a23, xi E 0 m24 100 a24, xi E 0 m25 100 a25, xi E 0 m26 100 a26]) (tl := []) (wc := [xo mo 1 [.int (nI 0), .ref m1, .ref m2, .int (nI tn), .ref m4, .ref m5, .int i6, .int (nI pl), .ref m8, .ref m9, .int (nI K), .int (nI G), .int (nI rd), .int (nI tu), .ref m14, .ref m15, .ref m16, .ref m17, .int i18, .int i19, .ref m20, .int (nI bt), .ref m22, .ref m23, .ref m24, .ref m25, .ref m26, .int (nI 0), .int i28, .int i29, .int i30]]) (wr := [xi E 0 m1 12 a1, xi E 0 m2 120 a2, xi E 0 m4 2160 a4, xi E 0 m5 2160 a5, xi E 0 m8 189 a8, xi E 0 m9 180 a9, xi E 0 m14 20 a14, xi E 0 m15 20 a15, xi E 0 m16 9 a16, xi E 0 m17 9 a17, xi E 0 m20 20 a20, xi E 0 m22 100 a22, xi E 0 m23 100 a23, xi E 0 m24 100 a24, xi E 0 m25 100 a25, xi E 0 m26 100 a26]) (w3 := fun u => [xo mo 1 [.int (nI 1), .ref m1, .ref m2, .int (nI tn), .ref m4, .ref m5, .int i6, .int (nI pl), .ref m8, .ref m9, .int (nI K), .int (nI G), .int (nI rd), .int (nI tu), .ref m14, .ref m15, .ref m16, .ref m17, .int i18, .int i19, .ref m20, .int (nI bt), .ref m22, .ref m23, .ref m24, .ref m25, .ref m26, .int (nI 0), .int i28, .int i29, .int i30], xi E 0 m1 12 a1, xi E 0 m2 120 a2, xi E 0 m4 2160 a4, xi E 0 m5 2160 a5, xi E 0 m8 189 a8, xi E 0 m9 180 a9, xi E 0 m14 20 a14, xi E 0 m15 20 a15, xi E 0 m16 9 a16, xi E 0 m17 9 a17, xi E 0 m20 20 a20, xi E 0 m22 100 a22, xi E 0 m23 100 a23, xi E 0 m24 100 a24, xi E 0 m25 100 a25, xi E 0 m26 100 a26]) ⟨hx, hb, hml, hown, hts⟩ (met_bad1 l D E H_1.size mo [.int (nI 0), .ref m1, .ref m2, .int (nI tn), .ref m4, .ref m5, .int i6, .int (nI pl), .ref m8, .ref m9, .int (nI K), .int (nI G), .int (nI rd), .int (nI tu), .ref m14, .ref m15, .ref m16, .ref m17, .int i18, .int i19, .ref m20, .int (nI bt), .ref m22, .ref m23, .ref m24, .ref m25, .ref m26, .int (nI 0), .int i28, .int i29, .int i30] (nI 1) (Nat.le_of_ble_eq_true rfl)) (lw_V q1037 q1039 qs12 q50 q1040) (by decide +kernel) ⟨(Nat.le_of_ble_eq_true rfl), (Nat.le_of_ble_eq_true rfl)⟩ rfl rfl hK hN hP hD hS hA [0] [1, 2, 3, 4, 5, 6, 7, 8, 9, 10, 11, 12, 13, 14, 15, 16] [16, 0, 1, 2, 3, 4, 5, 6, 7, 8, 9, 10, 11, 12, 13, 14, 15] rfl rfl rfl rfl rfl (by decide) (fun _ => rfl) (q0 := 0) rfl rfl rfl rfl hl.1 rfl (Nat.le_of_ble_eq_true rfl) dX2_teach_90 ⟨(Nat.le_of_ble_eq_true rfl), (Nat.le_of_ble_eq_true rfl)⟩ (fun r_3 u_3 H_3 locs_3 h_3 hP hD hS => ?_)
      obtain ⟨u0_3, rfl⟩ : ∃ z, z = u_3 := ⟨_, rfl⟩
      have hP : va_P D vwCl [xo mo 1 [.int (nI 1), .ref m1, .ref m2, .int (nI tn), .ref m4, .ref m5, .int i6, .int (nI pl), .ref m8, .ref m9, .int (nI K), .int (nI G), .int (nI rd), .int (nI tu), .ref m14, .ref m15, .ref m16, .ref m17, .int i18, .int i19, .ref m20, .int (nI bt), .ref m22, .ref m23, .ref m24, .ref m25, .ref m26, .int (nI 0), .int i28, .int i29, .int i30], xi E 0 m1 12 a1, xi E 0 m2 120 a2, xi E 0 m4 2160 a4, xi E 0 m5 2160 a5, xi E 0 m8 189 a8, xi E 0 m9 180 a9, xi E 0 m14 20 a14, xi E 0 m15 20 a15, xi E 0 m16 9 a16, xi E 0 m17 9 a17, xi E 0 m20 20 a20, xi E 0 m22 100 a22, xi E 0 m23 100 a23, xi E 0 m24 100 a24, xi E 0 m25 100 a25, xi E 0 m26 100 a26] H_3 := hP
      have hD : va_D A [xo mo 1 [.int (nI 1), .ref m1, .ref m2, .int (nI tn), .ref m4, .ref m5, .int i6, .int (nI pl), .ref m8, .ref m9, .int (nI K), .int (nI G), .int (nI rd), .int (nI tu), .ref m14, .ref m15, .ref m16, .ref m17, .int i18, .int i19, .ref m20, .int (nI bt), .ref m22, .ref m23, .ref m24, .ref m25, .ref m26, .int (nI 0), .int i28, .int i29, .int i30], xi E 0 m1 12 a1, xi E 0 m2 120 a2, xi E 0 m4 2160 a4, xi E 0 m5 2160 a5, xi E 0 m8 189 a8, xi E 0 m9 180 a9, xi E 0 m14 20 a14, xi E 0 m15 20 a15, xi E 0 m16 9 a16, xi E 0 m17 9 a17, xi E 0 m20 20 a20, xi E 0 m22 100 a22, xi E 0 m23 100 a23, xi E 0 m24 100 a24, xi E 0 m25 100 a25, xi E 0 m26 100 a26] := hD
      subst h_3
      refine xi_if_eq (tgt := 98) hx hb (by omega) dX2_teach_93 (by decide) (fun c_93 => absurd c_93 (by decide)) (fun c_93 => ?_)
      refine lv_iconst (v := nI 0) hx hb dX2_teach_96 (by decide) ?_
      refine W.widen (k := 0) (n := 0) (Nat.le_of_ble_eq_true rfl) (Nat.le_of_ble_eq_true rfl) ?_
      exact W.iret (v := nI 0) hx hb hr (fun t9 ht9 hW9 => ⟨⟨_, [xo mo 1 [.int (nI 1), .ref m1, .ref m2, .int (nI tn), .ref m4, .ref m5, .int i6, .int (nI pl), .ref m8, .ref m9, .int (nI K), .int (nI G), .int (nI rd), .int (nI tu), .ref m14, .ref m15, .ref m16, .ref m17, .int i18, .int i19, .ref m20, .int (nI bt), .ref m22, .ref m23, .ref m24, .ref m25, .ref m26, .int (nI 0), .int i28, .int i29, .int i30], xi E 0 m1 12 a1, xi E 0 m2 120 a2, xi E 0 m4 2160 a4, xi E 0 m5 2160 a5, xi E 0 m8 189 a8, xi E 0 m9 180 a9, xi E 0 m14 20 a14, xi E 0 m15 20 a15, xi E 0 m16 9 a16, xi E 0 m17 9 a17, xi E 0 m20 20 a20, xi E 0 m22 100 a22, xi E 0 m23 100 a23, xi E 0 m24 100 a24, xi E 0 m25 100 a25, xi E 0 m26 100 a26], rfl, ⟨fun hc => absurd hc hbad, fun _ => ⟨m1, m2, m4, m5, m8, m9, m14, m15, m16, m17, m20, m22, m23, m24, m25, m26, i6, i18, i19, i28, i29, i30, a1, a2, a4, a5, a8, a9, a14, a15, a16, a17, a20, a22, a23, a24, a25, a26, hw1, hw2, hw3, hw4, rfl⟩⟩, by rw [ht9]; exact hP, hD⟩, hS.F ht9⟩) hS.2.2 dX2_teach_97
    · refine lv_iload_n hx hb dX2_teach_15 rfl (lv_at hl 2 rfl) ?_
      refine lv_ldc hx hb hown (hts _ q1035) dX2_teach_16 ?_
      refine xv_i (y := nI 111111) rfl ?_
      refine lv_icmp_lt (tgt := 27) hx hb dX2_teach_18 (by decide) (fun c_18 => ?_) (fun c_18 => ?_)
      · have hbad : ¬ okT x y := okT_y (inR_lo (by decide) c_18 (by decide))
        refine lv_iconst (v := nI 1) hx hb dX2_teach_27 (by decide) ?_
        refine lv_goto (tgt := 32) hx hb dX2_teach_28 (by decide) ?_
        refine lv_istore_n (lv' := [(3, .int (nI 1)), (0, .ref mo), (1, .int x), (2, .int y)]) hx hb dX2_teach_32 rfl hl (by decide) rfl (fun ls hl => ?_)
        refine lv_iload_n hx hb dX2_teach_33 rfl (lv_at hl 3 rfl) ?_
        refine lv_istore (lv' := [(4, .int y), (3, .int (nI 1)), (0, .ref mo), (1, .int x), (2, .int y)]) hx hb dX2_teach_34 hl (by decide) rfl (fun ls hl => ?_)
        refine lv_iconst (v := nI 0) hx hb dX2_teach_36 (by decide) ?_
        refine lv_istore (lv' := [(5, .int (nI 0)), (4, .int y), (3, .int (nI 1)), (0, .ref mo), (1, .int x), (2, .int y)]) hx hb dX2_teach_37 hl (by decide) rfl (fun ls hl => ?_)
        refine lv_iload hx hb dX2_teach_39 (lv_at hl 0 rfl) ?_
        refine lv_bipush (v := nI 6) hx hb dX2_teach_41 (by decide) ?_
        refine xi_icmp_ge (tgt := 87) hx hb (by omega) (by omega) dX2_teach_43 (by decide) (fun c_43 => absurd c_43 (by decide)) (fun c_43 => ?_)
        refine lv_iload_n hx hb dX2_teach_46 rfl (lv_at hl 2 rfl) ?_
        refine xi_if_ne (tgt := 87) hx hb (by omega) dX2_teach_47 (by decide) (fun c_47 => ?_) (fun c_47 => absurd c_47 (by decide))
        refine lv_aload_n hx hb dX2_teach_87 rfl (lv_at hl 3 rfl) ?_
        refine lv_iload_n hx hb dX2_teach_88 rfl (lv_at hl 2 rfl) ?_
        refine lv_iconst (v := nI 1) hx hb dX2_teach_89 (by decide) ?_
        refine xq_Vi (n := 2) (As := [.int (nI 1), .int (nI 1)]) (rest := []) (ws := [xo mo 1 [.int (nI 0), .ref m1, .ref m2, .int (nI tn), .ref m4, .ref m5, .int i6, .int (nI pl), .ref m8, .ref m9, .int (nI K), .int (nI G), .int (nI rd), .int (nI tu), .ref m14, .ref m15, .ref m16, .ref m17, .int i18, .int i19, .ref m20, .int (nI bt), .ref m22, .ref m23, .ref m24, .ref m25, .ref m26, .int (nI 0), .int i28, .int i29, .int i30], xi E 0 m1 12 a1, xi E 0 m2 120 a2, xi E 0 m4 2160 a4, xi E 0 m5 2160 a5, xi E 0 m8 189 a8, xi E 0 m9 180 a9, xi E 0 m14 20 a14, xi E 0 m15 20 a15, xi E 0 m16 9 a16, xi E 0 m17 9 a17, xi E 0 m20 20 a20, xi E 0 m22 100 a22, xi E 0 m23 100 a23, xi E 0 m24 100 a24, xi E 0 m25 100 a25, xi E 0 m26 100 a26]) (tl := []) (wc := [xo mo 1 [.int (nI 0), .ref m1, .ref m2, .int (nI tn), .ref m4, .ref m5, .int i6, .int (nI pl), .ref m8, .ref m9, .int (nI K), .int (nI G), .int (nI rd), .int (nI tu), .ref m14, .ref m15, .ref m16, .ref m17, .int i18, .int i19, .ref m20, .int (nI bt), .ref m22, .ref m23, .ref m24, .ref m25, .ref m26, .int (nI 0), .int i28, .int i29, .int i30]]) (wr := [xi E 0 m1 12 a1, xi E 0 m2 120 a2, xi E 0 m4 2160 a4, xi E 0 m5 2160 a5, xi E 0 m8 189 a8, xi E 0 m9 180 a9, xi E 0 m14 20 a14, xi E 0 m15 20 a15, xi E 0 m16 9 a16, xi E 0 m17 9 a17, xi E 0 m20 20 a20, xi E 0 m22 100 a22, xi E 0 m23 100 a23, xi E 0 m24 100 a24, xi E 0 m25 100 a25, xi E 0 m26 100 a26]) (w3 := fun u => [xo mo 1 [.int (nI 1), .ref m1, .ref m2, .int (nI tn), .ref m4, .ref m5, .int i6, .int (nI pl), .ref m8, .ref m9, .int (nI K), .int (nI G), .int (nI rd), .int (nI tu), .ref m14, .ref m15, .ref m16, .ref m17, .int i18, .int i19, .ref m20, .int (nI bt), .ref m22, .ref m23, .ref m24, .ref m25, .ref m26, .int (nI 0), .int i28, .int i29, .int i30], xi E 0 m1 12 a1, xi E 0 m2 120 a2, xi E 0 m4 2160 a4, xi E 0 m5 2160 a5, xi E 0 m8 189 a8, xi E 0 m9 180 a9, xi E 0 m14 20 a14, xi E 0 m15 20 a15, xi E 0 m16 9 a16, xi E 0 m17 9 a17, xi E 0 m20 20 a20, xi E 0 m22 100 a22, xi E 0 m23 100 a23, xi E 0 m24 100 a24, xi E 0 m25 100 a25, xi E 0 m26 100 a26]) ⟨hx, hb, hml, hown, hts⟩ (met_bad1 l D E H_1.size mo [.int (nI 0), .ref m1, .ref m2, .int (nI tn), .ref m4, .ref m5, .int i6, .int (nI pl), .ref m8, .ref m9, .int (nI K), .int (nI G), .int (nI rd), .int (nI tu), .ref m14, .ref m15, .ref m16, .ref m17, .int i18, .int i19, .ref m20, .int (nI bt), .ref m22, .ref m23, .ref m24, .ref m25, .ref m26, .int (nI 0), .int i28, .int i29, .int i30] (nI 1) (Nat.le_of_ble_eq_true rfl)) (lw_V q1037 q1039 qs12 q50 q1040) (by decide +kernel) ⟨(Nat.le_of_ble_eq_true rfl), (Nat.le_of_ble_eq_true rfl)⟩ rfl rfl hK hN hP hD hS hA [0] [1, 2, 3, 4, 5, 6, 7, 8, 9, 10, 11, 12, 13, 14, 15, 16] [16, 0, 1, 2, 3, 4, 5, 6, 7, 8, 9, 10, 11, 12, 13, 14, 15] rfl rfl rfl rfl rfl (by decide) (fun _ => rfl) (q0 := 0) rfl rfl rfl rfl hl.1 rfl (Nat.le_of_ble_eq_true rfl) dX2_teach_90 ⟨(Nat.le_of_ble_eq_true rfl), (Nat.le_of_ble_eq_true rfl)⟩ (fun r_4 u_4 H_4 locs_4 h_4 hP hD hS => ?_)
        obtain ⟨u0_4, rfl⟩ : ∃ z, z = u_4 := ⟨_, rfl⟩
        have hP : va_P D vwCl [xo mo 1 [.int (nI 1), .ref m1, .ref m2, .int (nI tn), .ref m4, .ref m5, .int i6, .int (nI pl), .ref m8, .ref m9, .int (nI K), .int (nI G), .int (nI rd), .int (nI tu), .ref m14, .ref m15, .ref m16, .ref m17, .int i18, .int i19, .ref m20, .int (nI bt), .ref m22, .ref m23, .ref m24, .ref m25, .ref m26, .int (nI 0), .int i28, .int i29, .int i30], xi E 0 m1 12 a1, xi E 0 m2 120 a2, xi E 0 m4 2160 a4, xi E 0 m5 2160 a5, xi E 0 m8 189 a8, xi E 0 m9 180 a9, xi E 0 m14 20 a14, xi E 0 m15 20 a15, xi E 0 m16 9 a16, xi E 0 m17 9 a17, xi E 0 m20 20 a20, xi E 0 m22 100 a22, xi E 0 m23 100 a23, xi E 0 m24 100 a24, xi E 0 m25 100 a25, xi E 0 m26 100 a26] H_4 := hP
        have hD : va_D A [xo mo 1 [.int (nI 1), .ref m1, .ref m2, .int (nI tn), .ref m4, .ref m5, .int i6, .int (nI pl), .ref m8, .ref m9, .int (nI K), .int (nI G), .int (nI rd), .int (nI tu), .ref m14, .ref m15, .ref m16, .ref m17, .int i18, .int i19, .ref m20, .int (nI bt), .ref m22, .ref m23, .ref m24, .ref m25, .ref m26, .int (nI 0), .int i28, .int i29, .int i30], xi E 0 m1 12 a1, xi E 0 m2 120 a2, xi E 0 m4 2160 a4, xi E 0 m5 2160 a5, xi E 0 m8 189 a8, xi E 0 m9 180 a9, xi E 0 m14 20 a14, xi E 0 m15 20 a15, xi E 0 m16 9 a16, xi E 0 m17 9 a17, xi E 0 m20 20 a20, xi E 0 m22 100 a22, xi E 0 m23 100 a23, xi E 0 m24 100 a24, xi E 0 m25 100 a25, xi E 0 m26 100 a26] := hD
        subst h_4
        refine xi_if_eq (tgt := 98) hx hb (by omega) dX2_teach_93 (by decide) (fun c_93 => absurd c_93 (by decide)) (fun c_93 => ?_)
        refine lv_iconst (v := nI 0) hx hb dX2_teach_96 (by decide) ?_
        refine W.widen (k := 0) (n := 0) (Nat.le_of_ble_eq_true rfl) (Nat.le_of_ble_eq_true rfl) ?_
        exact W.iret (v := nI 0) hx hb hr (fun t9 ht9 hW9 => ⟨⟨_, [xo mo 1 [.int (nI 1), .ref m1, .ref m2, .int (nI tn), .ref m4, .ref m5, .int i6, .int (nI pl), .ref m8, .ref m9, .int (nI K), .int (nI G), .int (nI rd), .int (nI tu), .ref m14, .ref m15, .ref m16, .ref m17, .int i18, .int i19, .ref m20, .int (nI bt), .ref m22, .ref m23, .ref m24, .ref m25, .ref m26, .int (nI 0), .int i28, .int i29, .int i30], xi E 0 m1 12 a1, xi E 0 m2 120 a2, xi E 0 m4 2160 a4, xi E 0 m5 2160 a5, xi E 0 m8 189 a8, xi E 0 m9 180 a9, xi E 0 m14 20 a14, xi E 0 m15 20 a15, xi E 0 m16 9 a16, xi E 0 m17 9 a17, xi E 0 m20 20 a20, xi E 0 m22 100 a22, xi E 0 m23 100 a23, xi E 0 m24 100 a24, xi E 0 m25 100 a25, xi E 0 m26 100 a26], rfl, ⟨fun hc => absurd hc hbad, fun _ => ⟨m1, m2, m4, m5, m8, m9, m14, m15, m16, m17, m20, m22, m23, m24, m25, m26, i6, i18, i19, i28, i29, i30, a1, a2, a4, a5, a8, a9, a14, a15, a16, a17, a20, a22, a23, a24, a25, a26, hw1, hw2, hw3, hw4, rfl⟩⟩, by rw [ht9]; exact hP, hD⟩, hS.F ht9⟩) hS.2.2 dX2_teach_97
      · refine lv_iload_n hx hb dX2_teach_21 rfl (lv_at hl 2 rfl) ?_
        refine lv_ldc hx hb hown (hts _ q1036) dX2_teach_22 ?_
        refine xv_i (y := nI 333333) rfl ?_
        refine lv_icmp_le (tgt := 31) hx hb dX2_teach_24 (by decide) (fun c_24 => ?_) (fun c_24 => ?_)
        · obtain ⟨g, hg, ex⟩ := inB_mk (by decide) c_6 c_12
          obtain ⟨w0, hw0a, hw0b, ey⟩ := inR_mk (lo := 111111) (hi := 333333) (by decide) (by decide) c_18 c_24
          rw [ex, ey] at hl
          refine lv_iconst (v := nI 0) hx hb dX2_teach_31 (by decide) ?_
          refine lv_istore_n (lv' := [(3, .int (nI 0)), (0, .ref mo), (1, .int (nI g)), (2, .int (nI w0))]) hx hb dX2_teach_32 rfl hl (by decide) rfl (fun ls hl => ?_)
          refine lv_iload_n hx hb dX2_teach_33 rfl (lv_at hl 3 rfl) ?_
          refine xv_i (y := nI (w0 / 10 ^ 0)) (by rw [Nat.pow_zero, Nat.div_one]) ?_
          refine lv_istore (lv' := [(4, .int (nI (w0 / 10 ^ 0))), (3, .int (nI 0)), (0, .ref mo), (1, .int (nI g)), (2, .int (nI w0))]) hx hb dX2_teach_34 hl (by decide) rfl (fun ls hl => ?_)
          refine lv_iconst (v := nI 0) hx hb dX2_teach_36 (by decide) ?_
          refine lv_istore (lv' := [(5, .int (nI 0)), (4, .int (nI (w0 / 10 ^ 0))), (3, .int (nI 0)), (0, .ref mo), (1, .int (nI g)), (2, .int (nI w0))]) hx hb dX2_teach_37 hl (by decide) rfl (fun ls hl => ?_)
          have lp1 : ∀ (lc1 : Nat) (k : Nat) (b : Nat), 6 - k < lc1 → (k ≤ 6) → (b < 2) → (b = 0 → ∀ j, j < k → 1 ≤ dgt w0 (5 - j) ∧ dgt w0 (5 - j) ≤ 3) → (b = 1 → ¬ okW6 w0) → ∀ (ls : Array Slot), lv_has ls 6 [(0, .ref mo), (1, .int (nI g)), (2, .int (nI w0)), (3, .int (nI b)), (4, .int (nI (w0 / 10 ^ k))), (5, .int (nI k))] → W p l e (headSpec (ws_ yX2_teach cX2_teach 6 (some .int)) (rmD 2 0 0)).room s m ([.ref mo, .int x, .int y] : List Value).toArray below meth c H_1 locs_1 0 0 (MQ below (va_Qi (fun r u => (okT x y → ∃ g w, g < 12 ∧ x = nI g ∧ y = nI w ∧ okW6 w ∧ r = nI (if wd g = w then 0 else 1) ∧ MIs E mo 0 (va_up wd g w) tk tn rd pl K G tu sg sp bt ts u) ∧ (¬ okT x y → MIs E mo 1 wd tk tn rd pl K G tu sg sp bt ts u)) (fun (u : va_W) t8 => xR D E A ((fun u => u) u) t8) A) ([.ref mo, .int x, .int y] : List Value).toArray s 0 0 A) (F0 m 39 ls []) := by
            intro lc1
            induction lc1 with
            | zero => intro k b hm; exact absurd hm (Nat.not_lt_zero _)
            | succ lc1 ih1 =>
              intro k b hm1 hk hb2 hd0 hd1 ls hl
              have hdv : w0 / 10 ^ k ≤ w0 := Nat.div_le_self _ _
              refine lv_iload hx hb dX2_teach_39 (lv_at hl 5 rfl) ?_
              refine lv_bipush (v := nI 6) hx hb dX2_teach_41 (by decide) ?_
              refine xi_icmp_ge (tgt := 87) hx hb (by omega) (by omega) dX2_teach_43 (by decide) (fun c_43 => ?_) (fun c_43 => ?_)
              · rcases (show b = 0 ∨ b = 1 by omega) with rfl | rfl
                · have hok : okW6 w0 := ⟨hw0a, hw0b, fun j hj => by have := hd0 rfl (5 - j) (by omega); rw [show 5 - (5 - j) = j by omega] at this; exact this⟩
                  have hokT : okT x y := by rw [ex, ey]; exact (okT_nI hg (by omega)).mpr hok
                  refine lv_aload_n hx hb dX2_teach_87 rfl (lv_at hl 0 rfl) ?_
                  refine lv_iload_n hx hb dX2_teach_88 rfl (lv_at hl 3 rfl) ?_
                  refine lv_iconst (v := nI 1) hx hb dX2_teach_89 (by decide) ?_
                  refine xs_Vi (n := 2) (As := [.int (nI 0), .int (nI 1)]) (rest := []) (ws := [xo mo 1 [.int (nI 0), .ref m1, .ref m2, .int (nI tn), .ref m4, .ref m5, .int i6, .int (nI pl), .ref m8, .ref m9, .int (nI K), .int (nI G), .int (nI rd), .int (nI tu), .ref m14, .ref m15, .ref m16, .ref m17, .int i18, .int i19, .ref m20, .int (nI bt), .ref m22, .ref m23, .ref m24, .ref m25, .ref m26, .int (nI 0), .int i28, .int i29, .int i30], xi E 0 m1 12 a1, xi E 0 m2 120 a2, xi E 0 m4 2160 a4, xi E 0 m5 2160 a5, xi E 0 m8 189 a8, xi E 0 m9 180 a9, xi E 0 m14 20 a14, xi E 0 m15 20 a15, xi E 0 m16 9 a16, xi E 0 m17 9 a17, xi E 0 m20 20 a20, xi E 0 m22 100 a22, xi E 0 m23 100 a23, xi E 0 m24 100 a24, xi E 0 m25 100 a25, xi E 0 m26 100 a26]) (tl := []) (wc := [xo mo 1 [.int (nI 0), .ref m1, .ref m2, .int (nI tn), .ref m4, .ref m5, .int i6, .int (nI pl), .ref m8, .ref m9, .int (nI K), .int (nI G), .int (nI rd), .int (nI tu), .ref m14, .ref m15, .ref m16, .ref m17, .int i18, .int i19, .ref m20, .int (nI bt), .ref m22, .ref m23, .ref m24, .ref m25, .ref m26, .int (nI 0), .int i28, .int i29, .int i30]]) ⟨hx, hb, hml, hown, hts⟩ (met_bad0 l D E mo [.int (nI 0), .ref m1, .ref m2, .int (nI tn), .ref m4, .ref m5, .int i6, .int (nI pl), .ref m8, .ref m9, .int (nI K), .int (nI G), .int (nI rd), .int (nI tu), .ref m14, .ref m15, .ref m16, .ref m17, .int i18, .int i19, .ref m20, .int (nI bt), .ref m22, .ref m23, .ref m24, .ref m25, .ref m26, .int (nI 0), .int i28, .int i29, .int i30] (nI 1)) (lw_V q1037 q1039 qs12 q50 q1040) (by decide +kernel) ⟨(Nat.le_of_ble_eq_true rfl), (Nat.le_of_ble_eq_true rfl)⟩ rfl rfl hK hN hP [0] rfl (q0 := 0) rfl rfl rfl rfl hl.1 rfl (Nat.le_of_ble_eq_true rfl) dX2_teach_90 ⟨(Nat.le_of_ble_eq_true rfl), (Nat.le_of_ble_eq_true rfl)⟩ (fun r_5 h_5 => ?_)
                  subst h_5
                  refine xi_if_eq (tgt := 98) hx hb (by omega) dX2_teach_93 (by decide) (fun c_93 => ?_) (fun c_93 => absurd c_93 (by decide))
                  refine lv_aload_n hx hb dX2_teach_98 rfl (lv_at hl 0 rfl) ?_
                  refine va_get (D := D) (ci := 1) (v := .ref m1) (C := RX2) (T := TX2) (N := 31) hx hb hts in_X2 hown hK hP 0 rfl rfl 1 (by decide) (hts _ q934) (fun _ h9 => h9) rfl dX2_teach_99 ?_
                  refine lv_iload_n hx hb dX2_teach_102 rfl (lv_at hl 1 rfl) ?_
                  refine xa_iald hx hb hK hP 1 rfl (by omega) (by omega) dX2_teach_103 ?_
                  refine xv_i (y := nI (wd g)) (hw1 g hg) ?_
                  refine lv_iload_n hx hb dX2_teach_104 rfl (lv_at hl 2 rfl) ?_
                  refine xi_icmp_ne (tgt := 112) hx hb (hwb g hg) (by omega) dX2_teach_105 (by decide) (fun c_105 => ?_) (fun c_105 => ?_)
                  · refine lv_iconst (v := nI 1) hx hb dX2_teach_112 (by decide) ?_
                    refine lv_istore (lv' := [(4, .int (nI 1)), (0, .ref mo), (1, .int (nI g)), (2, .int (nI w0)), (3, .int (nI 0)), (5, .int (nI k))]) hx hb dX2_teach_113 hl (by decide) rfl (fun ls hl => ?_)
                    refine lv_aload_n hx hb dX2_teach_115 rfl (lv_at hl 1 rfl) ?_
                    refine va_get (D := D) (ci := 1) (v := .ref m1) (C := RX2) (T := TX2) (N := 31) hx hb hts in_X2 hown hK hP 0 rfl rfl 1 (by decide) (hts _ q934) (fun _ h9 => h9) rfl dX2_teach_116 ?_
                    refine lv_iload_n hx hb dX2_teach_119 rfl (lv_at hl 2 rfl) ?_
                    refine lv_iload_n hx hb dX2_teach_120 rfl (lv_at hl 3 rfl) ?_
                    refine xa_iast hx hb hK hP hD hS 1 rfl (by omega) (by omega) dX2_teach_121 (fun H_6 locs_6 hP hD hS => ?_)
                    have hP : va_P D vwCl [xo mo 1 [.int (nI 0), .ref m1, .ref m2, .int (nI tn), .ref m4, .ref m5, .int i6, .int (nI pl), .ref m8, .ref m9, .int (nI K), .int (nI G), .int (nI rd), .int (nI tu), .ref m14, .ref m15, .ref m16, .ref m17, .int i18, .int i19, .ref m20, .int (nI bt), .ref m22, .ref m23, .ref m24, .ref m25, .ref m26, .int (nI 0), .int i28, .int i29, .int i30], xi E 0 m1 12 (upd a1 g (nI w0)), xi E 0 m2 120 a2, xi E 0 m4 2160 a4, xi E 0 m5 2160 a5, xi E 0 m8 189 a8, xi E 0 m9 180 a9, xi E 0 m14 20 a14, xi E 0 m15 20 a15, xi E 0 m16 9 a16, xi E 0 m17 9 a17, xi E 0 m20 20 a20, xi E 0 m22 100 a22, xi E 0 m23 100 a23, xi E 0 m24 100 a24, xi E 0 m25 100 a25, xi E 0 m26 100 a26] H_6 := hP
                    have hD : va_D A [xo mo 1 [.int (nI 0), .ref m1, .ref m2, .int (nI tn), .ref m4, .ref m5, .int i6, .int (nI pl), .ref m8, .ref m9, .int (nI K), .int (nI G), .int (nI rd), .int (nI tu), .ref m14, .ref m15, .ref m16, .ref m17, .int i18, .int i19, .ref m20, .int (nI bt), .ref m22, .ref m23, .ref m24, .ref m25, .ref m26, .int (nI 0), .int i28, .int i29, .int i30], xi E 0 m1 12 (upd a1 g (nI w0)), xi E 0 m2 120 a2, xi E 0 m4 2160 a4, xi E 0 m5 2160 a5, xi E 0 m8 189 a8, xi E 0 m9 180 a9, xi E 0 m14 20 a14, xi E 0 m15 20 a15, xi E 0 m16 9 a16, xi E 0 m17 9 a17, xi E 0 m20 20 a20, xi E 0 m22 100 a22, xi E 0 m23 100 a23, xi E 0 m24 100 a24, xi E 0 m25 100 a25, xi E 0 m26 100 a26] := hD
                    refine lv_iload hx hb dX2_teach_122 (lv_at hl 0 rfl) ?_
                    refine W.widen (k := 0) (n := 0) (Nat.le_of_ble_eq_true rfl) (Nat.le_of_ble_eq_true rfl) ?_
                    exact W.iret (v := nI 1) hx hb hr (fun t9 ht9 hW9 => ⟨⟨_, [xo mo 1 [.int (nI 0), .ref m1, .ref m2, .int (nI tn), .ref m4, .ref m5, .int i6, .int (nI pl), .ref m8, .ref m9, .int (nI K), .int (nI G), .int (nI rd), .int (nI tu), .ref m14, .ref m15, .ref m16, .ref m17, .int i18, .int i19, .ref m20, .int (nI bt), .ref m22, .ref m23, .ref m24, .ref m25, .ref m26, .int (nI 0), .int i28, .int i29, .int i30], xi E 0 m1 12 (upd a1 g (nI w0)), xi E 0 m2 120 a2, xi E 0 m4 2160 a4, xi E 0 m5 2160 a5, xi E 0 m8 189 a8, xi E 0 m9 180 a9, xi E 0 m14 20 a14, xi E 0 m15 20 a15, xi E 0 m16 9 a16, xi E 0 m17 9 a17, xi E 0 m20 20 a20, xi E 0 m22 100 a22, xi E 0 m23 100 a23, xi E 0 m24 100 a24, xi E 0 m25 100 a25, xi E 0 m26 100 a26], rfl, ⟨fun _ => ⟨g, w0, hg, ex, ey, hok, by rw [if_neg c_105], ⟨m1, m2, m4, m5, m8, m9, m14, m15, m16, m17, m20, m22, m23, m24, m25, m26, i6, i18, i19, i28, i29, i30, upd a1 g (nI w0), a2, a4, a5, a8, a9, a14, a15, a16, a17, a20, a22, a23, a24, a25, a26, upd_up hw1, hw2, hw3, hw4, rfl⟩⟩, fun hc => absurd hokT hc⟩, by rw [ht9]; exact hP, hD⟩, hS.F ht9⟩) hS.2.2 dX2_teach_124
                  · refine lv_iconst (v := nI 0) hx hb dX2_teach_108 (by decide) ?_
                    refine lv_goto (tgt := 113) hx hb dX2_teach_109 (by decide) ?_
                    refine lv_istore (lv' := [(4, .int (nI 0)), (0, .ref mo), (1, .int (nI g)), (2, .int (nI w0)), (3, .int (nI 0)), (5, .int (nI k))]) hx hb dX2_teach_113 hl (by decide) rfl (fun ls hl => ?_)
                    refine lv_aload_n hx hb dX2_teach_115 rfl (lv_at hl 1 rfl) ?_
                    refine va_get (D := D) (ci := 1) (v := .ref m1) (C := RX2) (T := TX2) (N := 31) hx hb hts in_X2 hown hK hP 0 rfl rfl 1 (by decide) (hts _ q934) (fun _ h9 => h9) rfl dX2_teach_116 ?_
                    refine lv_iload_n hx hb dX2_teach_119 rfl (lv_at hl 2 rfl) ?_
                    refine lv_iload_n hx hb dX2_teach_120 rfl (lv_at hl 3 rfl) ?_
                    refine xa_iast hx hb hK hP hD hS 1 rfl (by omega) (by omega) dX2_teach_121 (fun H_7 locs_7 hP hD hS => ?_)
                    have hP : va_P D vwCl [xo mo 1 [.int (nI 0), .ref m1, .ref m2, .int (nI tn), .ref m4, .ref m5, .int i6, .int (nI pl), .ref m8, .ref m9, .int (nI K), .int (nI G), .int (nI rd), .int (nI tu), .ref m14, .ref m15, .ref m16, .ref m17, .int i18, .int i19, .ref m20, .int (nI bt), .ref m22, .ref m23, .ref m24, .ref m25, .ref m26, .int (nI 0), .int i28, .int i29, .int i30], xi E 0 m1 12 (upd a1 g (nI w0)), xi E 0 m2 120 a2, xi E 0 m4 2160 a4, xi E 0 m5 2160 a5, xi E 0 m8 189 a8, xi E 0 m9 180 a9, xi E 0 m14 20 a14, xi E 0 m15 20 a15, xi E 0 m16 9 a16, xi E 0 m17 9 a17, xi E 0 m20 20 a20, xi E 0 m22 100 a22, xi E 0 m23 100 a23, xi E 0 m24 100 a24, xi E 0 m25 100 a25, xi E 0 m26 100 a26] H_7 := hP
                    have hD : va_D A [xo mo 1 [.int (nI 0), .ref m1, .ref m2, .int (nI tn), .ref m4, .ref m5, .int i6, .int (nI pl), .ref m8, .ref m9, .int (nI K), .int (nI G), .int (nI rd), .int (nI tu), .ref m14, .ref m15, .ref m16, .ref m17, .int i18, .int i19, .ref m20, .int (nI bt), .ref m22, .ref m23, .ref m24, .ref m25, .ref m26, .int (nI 0), .int i28, .int i29, .int i30], xi E 0 m1 12 (upd a1 g (nI w0)), xi E 0 m2 120 a2, xi E 0 m4 2160 a4, xi E 0 m5 2160 a5, xi E 0 m8 189 a8, xi E 0 m9 180 a9, xi E 0 m14 20 a14, xi E 0 m15 20 a15, xi E 0 m16 9 a16, xi E 0 m17 9 a17, xi E 0 m20 20 a20, xi E 0 m22 100 a22, xi E 0 m23 100 a23, xi E 0 m24 100 a24, xi E 0 m25 100 a25, xi E 0 m26 100 a26] := hD
                    refine lv_iload hx hb dX2_teach_122 (lv_at hl 0 rfl) ?_
                    refine W.widen (k := 0) (n := 0) (Nat.le_of_ble_eq_true rfl) (Nat.le_of_ble_eq_true rfl) ?_
                    exact W.iret (v := nI 0) hx hb hr (fun t9 ht9 hW9 => ⟨⟨_, [xo mo 1 [.int (nI 0), .ref m1, .ref m2, .int (nI tn), .ref m4, .ref m5, .int i6, .int (nI pl), .ref m8, .ref m9, .int (nI K), .int (nI G), .int (nI rd), .int (nI tu), .ref m14, .ref m15, .ref m16, .ref m17, .int i18, .int i19, .ref m20, .int (nI bt), .ref m22, .ref m23, .ref m24, .ref m25, .ref m26, .int (nI 0), .int i28, .int i29, .int i30], xi E 0 m1 12 (upd a1 g (nI w0)), xi E 0 m2 120 a2, xi E 0 m4 2160 a4, xi E 0 m5 2160 a5, xi E 0 m8 189 a8, xi E 0 m9 180 a9, xi E 0 m14 20 a14, xi E 0 m15 20 a15, xi E 0 m16 9 a16, xi E 0 m17 9 a17, xi E 0 m20 20 a20, xi E 0 m22 100 a22, xi E 0 m23 100 a23, xi E 0 m24 100 a24, xi E 0 m25 100 a25, xi E 0 m26 100 a26], rfl, ⟨fun _ => ⟨g, w0, hg, ex, ey, hok, by rw [if_pos c_105], ⟨m1, m2, m4, m5, m8, m9, m14, m15, m16, m17, m20, m22, m23, m24, m25, m26, i6, i18, i19, i28, i29, i30, upd a1 g (nI w0), a2, a4, a5, a8, a9, a14, a15, a16, a17, a20, a22, a23, a24, a25, a26, upd_up hw1, hw2, hw3, hw4, rfl⟩⟩, fun hc => absurd hokT hc⟩, by rw [ht9]; exact hP, hD⟩, hS.F ht9⟩) hS.2.2 dX2_teach_124
                · have hbad : ¬ okT x y := fun q => hd1 rfl ((okT_nI hg (by omega)).mp (by rw [ex, ey] at q; exact q))
                  refine lv_aload_n hx hb dX2_teach_87 rfl (lv_at hl 0 rfl) ?_
                  refine lv_iload_n hx hb dX2_teach_88 rfl (lv_at hl 3 rfl) ?_
                  refine lv_iconst (v := nI 1) hx hb dX2_teach_89 (by decide) ?_
                  refine xq_Vi (n := 2) (As := [.int (nI 1), .int (nI 1)]) (rest := []) (ws := [xo mo 1 [.int (nI 0), .ref m1, .ref m2, .int (nI tn), .ref m4, .ref m5, .int i6, .int (nI pl), .ref m8, .ref m9, .int (nI K), .int (nI G), .int (nI rd), .int (nI tu), .ref m14, .ref m15, .ref m16, .ref m17, .int i18, .int i19, .ref m20, .int (nI bt), .ref m22, .ref m23, .ref m24, .ref m25, .ref m26, .int (nI 0), .int i28, .int i29, .int i30], xi E 0 m1 12 a1, xi E 0 m2 120 a2, xi E 0 m4 2160 a4, xi E 0 m5 2160 a5, xi E 0 m8 189 a8, xi E 0 m9 180 a9, xi E 0 m14 20 a14, xi E 0 m15 20 a15, xi E 0 m16 9 a16, xi E 0 m17 9 a17, xi E 0 m20 20 a20, xi E 0 m22 100 a22, xi E 0 m23 100 a23, xi E 0 m24 100 a24, xi E 0 m25 100 a25, xi E 0 m26 100 a26]) (tl := []) (wc := [xo mo 1 [.int (nI 0), .ref m1, .ref m2, .int (nI tn), .ref m4, .ref m5, .int i6, .int (nI pl), .ref m8, .ref m9, .int (nI K), .int (nI G), .int (nI rd), .int (nI tu), .ref m14, .ref m15, .ref m16, .ref m17, .int i18, .int i19, .ref m20, .int (nI bt), .ref m22, .ref m23, .ref m24, .ref m25, .ref m26, .int (nI 0), .int i28, .int i29, .int i30]]) (wr := [xi E 0 m1 12 a1, xi E 0 m2 120 a2, xi E 0 m4 2160 a4, xi E 0 m5 2160 a5, xi E 0 m8 189 a8, xi E 0 m9 180 a9, xi E 0 m14 20 a14, xi E 0 m15 20 a15, xi E 0 m16 9 a16, xi E 0 m17 9 a17, xi E 0 m20 20 a20, xi E 0 m22 100 a22, xi E 0 m23 100 a23, xi E 0 m24 100 a24, xi E 0 m25 100 a25, xi E 0 m26 100 a26]) (w3 := fun u => [xo mo 1 [.int (nI 1), .ref m1, .ref m2, .int (nI tn), .ref m4, .ref m5, .int i6, .int (nI pl), .ref m8, .ref m9, .int (nI K), .int (nI G), .int (nI rd), .int (nI tu), .ref m14, .ref m15, .ref m16, .ref m17, .int i18, .int i19, .ref m20, .int (nI bt), .ref m22, .ref m23, .ref m24, .ref m25, .ref m26, .int (nI 0), .int i28, .int i29, .int i30], xi E 0 m1 12 a1, xi E 0 m2 120 a2, xi E 0 m4 2160 a4, xi E 0 m5 2160 a5, xi E 0 m8 189 a8, xi E 0 m9 180 a9, xi E 0 m14 20 a14, xi E 0 m15 20 a15, xi E 0 m16 9 a16, xi E 0 m17 9 a17, xi E 0 m20 20 a20, xi E 0 m22 100 a22, xi E 0 m23 100 a23, xi E 0 m24 100 a24, xi E 0 m25 100 a25, xi E 0 m26 100 a26]) ⟨hx, hb, hml, hown, hts⟩ (met_bad1 l D E H_1.size mo [.int (nI 0), .ref m1, .ref m2, .int (nI tn), .ref m4, .ref m5, .int i6, .int (nI pl), .ref m8, .ref m9, .int (nI K), .int (nI G), .int (nI rd), .int (nI tu), .ref m14, .ref m15, .ref m16, .ref m17, .int i18, .int i19, .ref m20, .int (nI bt), .ref m22, .ref m23, .ref m24, .ref m25, .ref m26, .int (nI 0), .int i28, .int i29, .int i30] (nI 1) (Nat.le_of_ble_eq_true rfl)) (lw_V q1037 q1039 qs12 q50 q1040) (by decide +kernel) ⟨(Nat.le_of_ble_eq_true rfl), (Nat.le_of_ble_eq_true rfl)⟩ rfl rfl hK hN hP hD hS hA [0] [1, 2, 3, 4, 5, 6, 7, 8, 9, 10, 11, 12, 13, 14, 15, 16] [16, 0, 1, 2, 3, 4, 5, 6, 7, 8, 9, 10, 11, 12, 13, 14, 15] rfl rfl rfl rfl rfl (by decide) (fun _ => rfl) (q0 := 0) rfl rfl rfl rfl hl.1 rfl (Nat.le_of_ble_eq_true rfl) dX2_teach_90 ⟨(Nat.le_of_ble_eq_true rfl), (Nat.le_of_ble_eq_true rfl)⟩ (fun r_8 u_8 H_8 locs_8 h_8 hP hD hS => ?_)
                  obtain ⟨u0_8, rfl⟩ : ∃ z, z = u_8 := ⟨_, rfl⟩
                  have hP : va_P D vwCl [xo mo 1 [.int (nI 1), .ref m1, .ref m2, .int (nI tn), .ref m4, .ref m5, .int i6, .int (nI pl), .ref m8, .ref m9, .int (nI K), .int (nI G), .int (nI rd), .int (nI tu), .ref m14, .ref m15, .ref m16, .ref m17, .int i18, .int i19, .ref m20, .int (nI bt), .ref m22, .ref m23, .ref m24, .ref m25, .ref m26, .int (nI 0), .int i28, .int i29, .int i30], xi E 0 m1 12 a1, xi E 0 m2 120 a2, xi E 0 m4 2160 a4, xi E 0 m5 2160 a5, xi E 0 m8 189 a8, xi E 0 m9 180 a9, xi E 0 m14 20 a14, xi E 0 m15 20 a15, xi E 0 m16 9 a16, xi E 0 m17 9 a17, xi E 0 m20 20 a20, xi E 0 m22 100 a22, xi E 0 m23 100 a23, xi E 0 m24 100 a24, xi E 0 m25 100 a25, xi E 0 m26 100 a26] H_8 := hP
                  have hD : va_D A [xo mo 1 [.int (nI 1), .ref m1, .ref m2, .int (nI tn), .ref m4, .ref m5, .int i6, .int (nI pl), .ref m8, .ref m9, .int (nI K), .int (nI G), .int (nI rd), .int (nI tu), .ref m14, .ref m15, .ref m16, .ref m17, .int i18, .int i19, .ref m20, .int (nI bt), .ref m22, .ref m23, .ref m24, .ref m25, .ref m26, .int (nI 0), .int i28, .int i29, .int i30], xi E 0 m1 12 a1, xi E 0 m2 120 a2, xi E 0 m4 2160 a4, xi E 0 m5 2160 a5, xi E 0 m8 189 a8, xi E 0 m9 180 a9, xi E 0 m14 20 a14, xi E 0 m15 20 a15, xi E 0 m16 9 a16, xi E 0 m17 9 a17, xi E 0 m20 20 a20, xi E 0 m22 100 a22, xi E 0 m23 100 a23, xi E 0 m24 100 a24, xi E 0 m25 100 a25, xi E 0 m26 100 a26] := hD
                  subst h_8
                  refine xi_if_eq (tgt := 98) hx hb (by omega) dX2_teach_93 (by decide) (fun c_93 => absurd c_93 (by decide)) (fun c_93 => ?_)
                  refine lv_iconst (v := nI 0) hx hb dX2_teach_96 (by decide) ?_
                  refine W.widen (k := 0) (n := 0) (Nat.le_of_ble_eq_true rfl) (Nat.le_of_ble_eq_true rfl) ?_
                  exact W.iret (v := nI 0) hx hb hr (fun t9 ht9 hW9 => ⟨⟨_, [xo mo 1 [.int (nI 1), .ref m1, .ref m2, .int (nI tn), .ref m4, .ref m5, .int i6, .int (nI pl), .ref m8, .ref m9, .int (nI K), .int (nI G), .int (nI rd), .int (nI tu), .ref m14, .ref m15, .ref m16, .ref m17, .int i18, .int i19, .ref m20, .int (nI bt), .ref m22, .ref m23, .ref m24, .ref m25, .ref m26, .int (nI 0), .int i28, .int i29, .int i30], xi E 0 m1 12 a1, xi E 0 m2 120 a2, xi E 0 m4 2160 a4, xi E 0 m5 2160 a5, xi E 0 m8 189 a8, xi E 0 m9 180 a9, xi E 0 m14 20 a14, xi E 0 m15 20 a15, xi E 0 m16 9 a16, xi E 0 m17 9 a17, xi E 0 m20 20 a20, xi E 0 m22 100 a22, xi E 0 m23 100 a23, xi E 0 m24 100 a24, xi E 0 m25 100 a25, xi E 0 m26 100 a26], rfl, ⟨fun hc => absurd hc hbad, fun _ => ⟨m1, m2, m4, m5, m8, m9, m14, m15, m16, m17, m20, m22, m23, m24, m25, m26, i6, i18, i19, i28, i29, i30, a1, a2, a4, a5, a8, a9, a14, a15, a16, a17, a20, a22, a23, a24, a25, a26, hw1, hw2, hw3, hw4, rfl⟩⟩, by rw [ht9]; exact hP, hD⟩, hS.F ht9⟩) hS.2.2 dX2_teach_97
              · refine lv_iload_n hx hb dX2_teach_46 rfl (lv_at hl 3 rfl) ?_
                refine xi_if_ne (tgt := 87) hx hb (by omega) dX2_teach_47 (by decide) (fun c_47 => ?_) (fun c_47 => ?_)
                · rcases (show b = 0 ∨ b = 1 by omega) with rfl | rfl
                  · exact absurd rfl c_47
                  · have hbad : ¬ okT x y := fun q => hd1 rfl ((okT_nI hg (by omega)).mp (by rw [ex, ey] at q; exact q))
                    refine lv_aload_n hx hb dX2_teach_87 rfl (lv_at hl 0 rfl) ?_
                    refine lv_iload_n hx hb dX2_teach_88 rfl (lv_at hl 3 rfl) ?_
                    refine lv_iconst (v := nI 1) hx hb dX2_teach_89 (by decide) ?_
                    refine xq_Vi (n := 2) (As := [.int (nI 1), .int (nI 1)]) (rest := []) (ws := [xo mo 1 [.int (nI 0), .ref m1, .ref m2, .int (nI tn), .ref m4, .ref m5, .int i6, .int (nI pl), .ref m8, .ref m9, .int (nI K), .int (nI G), .int (nI rd), .int (nI tu), .ref m14, .ref m15, .ref m16, .ref m17, .int i18, .int i19, .ref m20, .int (nI bt), .ref m22, .ref m23, .ref m24, .ref m25, .ref m26, .int (nI 0), .int i28, .int i29, .int i30], xi E 0 m1 12 a1, xi E 0 m2 120 a2, xi E 0 m4 2160 a4, xi E 0 m5 2160 a5, xi E 0 m8 189 a8, xi E 0 m9 180 a9, xi E 0 m14 20 a14, xi E 0 m15 20 a15, xi E 0 m16 9 a16, xi E 0 m17 9 a17, xi E 0 m20 20 a20, xi E 0 m22 100 a22, xi E 0 m23 100 a23, xi E 0 m24 100 a24, xi E 0 m25 100 a25, xi E 0 m26 100 a26]) (tl := []) (wc := [xo mo 1 [.int (nI 0), .ref m1, .ref m2, .int (nI tn), .ref m4, .ref m5, .int i6, .int (nI pl), .ref m8, .ref m9, .int (nI K), .int (nI G), .int (nI rd), .int (nI tu), .ref m14, .ref m15, .ref m16, .ref m17, .int i18, .int i19, .ref m20, .int (nI bt), .ref m22, .ref m23, .ref m24, .ref m25, .ref m26, .int (nI 0), .int i28, .int i29, .int i30]]) (wr := [xi E 0 m1 12 a1, xi E 0 m2 120 a2, xi E 0 m4 2160 a4, xi E 0 m5 2160 a5, xi E 0 m8 189 a8, xi E 0 m9 180 a9, xi E 0 m14 20 a14, xi E 0 m15 20 a15, xi E 0 m16 9 a16, xi E 0 m17 9 a17, xi E 0 m20 20 a20, xi E 0 m22 100 a22, xi E 0 m23 100 a23, xi E 0 m24 100 a24, xi E 0 m25 100 a25, xi E 0 m26 100 a26]) (w3 := fun u => [xo mo 1 [.int (nI 1), .ref m1, .ref m2, .int (nI tn), .ref m4, .ref m5, .int i6, .int (nI pl), .ref m8, .ref m9, .int (nI K), .int (nI G), .int (nI rd), .int (nI tu), .ref m14, .ref m15, .ref m16, .ref m17, .int i18, .int i19, .ref m20, .int (nI bt), .ref m22, .ref m23, .ref m24, .ref m25, .ref m26, .int (nI 0), .int i28, .int i29, .int i30], xi E 0 m1 12 a1, xi E 0 m2 120 a2, xi E 0 m4 2160 a4, xi E 0 m5 2160 a5, xi E 0 m8 189 a8, xi E 0 m9 180 a9, xi E 0 m14 20 a14, xi E 0 m15 20 a15, xi E 0 m16 9 a16, xi E 0 m17 9 a17, xi E 0 m20 20 a20, xi E 0 m22 100 a22, xi E 0 m23 100 a23, xi E 0 m24 100 a24, xi E 0 m25 100 a25, xi E 0 m26 100 a26]) ⟨hx, hb, hml, hown, hts⟩ (met_bad1 l D E H_1.size mo [.int (nI 0), .ref m1, .ref m2, .int (nI tn), .ref m4, .ref m5, .int i6, .int (nI pl), .ref m8, .ref m9, .int (nI K), .int (nI G), .int (nI rd), .int (nI tu), .ref m14, .ref m15, .ref m16, .ref m17, .int i18, .int i19, .ref m20, .int (nI bt), .ref m22, .ref m23, .ref m24, .ref m25, .ref m26, .int (nI 0), .int i28, .int i29, .int i30] (nI 1) (Nat.le_of_ble_eq_true rfl)) (lw_V q1037 q1039 qs12 q50 q1040) (by decide +kernel) ⟨(Nat.le_of_ble_eq_true rfl), (Nat.le_of_ble_eq_true rfl)⟩ rfl rfl hK hN hP hD hS hA [0] [1, 2, 3, 4, 5, 6, 7, 8, 9, 10, 11, 12, 13, 14, 15, 16] [16, 0, 1, 2, 3, 4, 5, 6, 7, 8, 9, 10, 11, 12, 13, 14, 15] rfl rfl rfl rfl rfl (by decide) (fun _ => rfl) (q0 := 0) rfl rfl rfl rfl hl.1 rfl (Nat.le_of_ble_eq_true rfl) dX2_teach_90 ⟨(Nat.le_of_ble_eq_true rfl), (Nat.le_of_ble_eq_true rfl)⟩ (fun r_9 u_9 H_9 locs_9 h_9 hP hD hS => ?_)
                    obtain ⟨u0_9, rfl⟩ : ∃ z, z = u_9 := ⟨_, rfl⟩
                    have hP : va_P D vwCl [xo mo 1 [.int (nI 1), .ref m1, .ref m2, .int (nI tn), .ref m4, .ref m5, .int i6, .int (nI pl), .ref m8, .ref m9, .int (nI K), .int (nI G), .int (nI rd), .int (nI tu), .ref m14, .ref m15, .ref m16, .ref m17, .int i18, .int i19, .ref m20, .int (nI bt), .ref m22, .ref m23, .ref m24, .ref m25, .ref m26, .int (nI 0), .int i28, .int i29, .int i30], xi E 0 m1 12 a1, xi E 0 m2 120 a2, xi E 0 m4 2160 a4, xi E 0 m5 2160 a5, xi E 0 m8 189 a8, xi E 0 m9 180 a9, xi E 0 m14 20 a14, xi E 0 m15 20 a15, xi E 0 m16 9 a16, xi E 0 m17 9 a17, xi E 0 m20 20 a20, xi E 0 m22 100 a22, xi E 0 m23 100 a23, xi E 0 m24 100 a24, xi E 0 m25 100 a25, xi E 0 m26 100 a26] H_9 := hP
                    have hD : va_D A [xo mo 1 [.int (nI 1), .ref m1, .ref m2, .int (nI tn), .ref m4, .ref m5, .int i6, .int (nI pl), .ref m8, .ref m9, .int (nI K), .int (nI G), .int (nI rd), .int (nI tu), .ref m14, .ref m15, .ref m16, .ref m17, .int i18, .int i19, .ref m20, .int (nI bt), .ref m22, .ref m23, .ref m24, .ref m25, .ref m26, .int (nI 0), .int i28, .int i29, .int i30], xi E 0 m1 12 a1, xi E 0 m2 120 a2, xi E 0 m4 2160 a4, xi E 0 m5 2160 a5, xi E 0 m8 189 a8, xi E 0 m9 180 a9, xi E 0 m14 20 a14, xi E 0 m15 20 a15, xi E 0 m16 9 a16, xi E 0 m17 9 a17, xi E 0 m20 20 a20, xi E 0 m22 100 a22, xi E 0 m23 100 a23, xi E 0 m24 100 a24, xi E 0 m25 100 a25, xi E 0 m26 100 a26] := hD
                    subst h_9
                    refine xi_if_eq (tgt := 98) hx hb (by omega) dX2_teach_93 (by decide) (fun c_93 => absurd c_93 (by decide)) (fun c_93 => ?_)
                    refine lv_iconst (v := nI 0) hx hb dX2_teach_96 (by decide) ?_
                    refine W.widen (k := 0) (n := 0) (Nat.le_of_ble_eq_true rfl) (Nat.le_of_ble_eq_true rfl) ?_
                    exact W.iret (v := nI 0) hx hb hr (fun t9 ht9 hW9 => ⟨⟨_, [xo mo 1 [.int (nI 1), .ref m1, .ref m2, .int (nI tn), .ref m4, .ref m5, .int i6, .int (nI pl), .ref m8, .ref m9, .int (nI K), .int (nI G), .int (nI rd), .int (nI tu), .ref m14, .ref m15, .ref m16, .ref m17, .int i18, .int i19, .ref m20, .int (nI bt), .ref m22, .ref m23, .ref m24, .ref m25, .ref m26, .int (nI 0), .int i28, .int i29, .int i30], xi E 0 m1 12 a1, xi E 0 m2 120 a2, xi E 0 m4 2160 a4, xi E 0 m5 2160 a5, xi E 0 m8 189 a8, xi E 0 m9 180 a9, xi E 0 m14 20 a14, xi E 0 m15 20 a15, xi E 0 m16 9 a16, xi E 0 m17 9 a17, xi E 0 m20 20 a20, xi E 0 m22 100 a22, xi E 0 m23 100 a23, xi E 0 m24 100 a24, xi E 0 m25 100 a25, xi E 0 m26 100 a26], rfl, ⟨fun hc => absurd hc hbad, fun _ => ⟨m1, m2, m4, m5, m8, m9, m14, m15, m16, m17, m20, m22, m23, m24, m25, m26, i6, i18, i19, i28, i29, i30, a1, a2, a4, a5, a8, a9, a14, a15, a16, a17, a20, a22, a23, a24, a25, a26, hw1, hw2, hw3, hw4, rfl⟩⟩, by rw [ht9]; exact hP, hD⟩, hS.F ht9⟩) hS.2.2 dX2_teach_97
                · have hdg : w0 / 10 ^ k % 10 = dgt w0 (5 - k) := by unfold dgt; rw [show 5 - (5 - k) = k by omega]
                  refine lv_iload hx hb dX2_teach_50 (lv_at hl 4 rfl) ?_
                  refine lv_bipush (v := nI 10) hx hb dX2_teach_52 (by decide) ?_
                  refine xi_irem hx hb (by omega) (by decide) (by decide) dX2_teach_54 ?_
                  refine lv_iconst (v := nI 1) hx hb dX2_teach_55 (by decide) ?_
                  refine xi_icmp_lt (tgt := 68) hx hb (by omega) (by omega) dX2_teach_56 (by decide) (fun c_56 => ?_) (fun c_56 => ?_)
                  · refine lv_iconst (v := nI 1) hx hb dX2_teach_68 (by decide) ?_
                    refine lv_goto (tgt := 73) hx hb dX2_teach_69 (by decide) ?_
                    refine lv_istore_n (lv' := [(3, .int (nI 1)), (0, .ref mo), (1, .int (nI g)), (2, .int (nI w0)), (4, .int (nI (w0 / 10 ^ k))), (5, .int (nI k))]) hx hb dX2_teach_73 rfl hl (by decide) rfl (fun ls hl => ?_)
                    refine lv_iload hx hb dX2_teach_74 (lv_at hl 4 rfl) ?_
                    refine lv_bipush (v := nI 10) hx hb dX2_teach_76 (by decide) ?_
                    refine xi_idiv hx hb (by omega) (by decide) (by decide) dX2_teach_78 ?_
                    refine xv_i (y := nI (w0 / 10 ^ (k + 1))) (by rw [div10]) ?_
                    refine lv_istore (lv' := [(4, .int (nI (w0 / 10 ^ (k + 1)))), (3, .int (nI 1)), (0, .ref mo), (1, .int (nI g)), (2, .int (nI w0)), (5, .int (nI k))]) hx hb dX2_teach_79 hl (by decide) rfl (fun ls hl => ?_)
                    refine lv_iinc (v := nI (k + 1)) (lv' := [(5, .int (nI (k + 1))), (4, .int (nI (w0 / 10 ^ (k + 1)))), (3, .int (nI 1)), (0, .ref mo), (1, .int (nI g)), (2, .int (nI w0))]) hx hb dX2_teach_81 hl (k := 5) rfl (nI_1 _) (by decide) rfl (fun ls hl => ?_)
                    refine lv_goto (tgt := 39) hx hb dX2_teach_84 (by decide) ?_
                    exact ih1 (k + 1) 1 (by omega) (by omega) (by omega) (fun q => absurd q (by decide)) (fun _ hc => by have := hc.2.2 (5 - k) (by omega); rw [← hdg] at this; omega) _ (lv_sub hl [3, 4, 5, 2, 1, 0] rfl)
                  · refine lv_iload hx hb dX2_teach_59 (lv_at hl 4 rfl) ?_
                    refine lv_bipush (v := nI 10) hx hb dX2_teach_61 (by decide) ?_
                    refine xi_irem hx hb (by omega) (by decide) (by decide) dX2_teach_63 ?_
                    refine lv_iconst (v := nI 3) hx hb dX2_teach_64 (by decide) ?_
                    refine xi_icmp_le (tgt := 72) hx hb (by omega) (by omega) dX2_teach_65 (by decide) (fun c_65 => ?_) (fun c_65 => ?_)
                    · refine lv_iconst (v := nI 0) hx hb dX2_teach_72 (by decide) ?_
                      refine lv_istore_n (lv' := [(3, .int (nI 0)), (0, .ref mo), (1, .int (nI g)), (2, .int (nI w0)), (4, .int (nI (w0 / 10 ^ k))), (5, .int (nI k))]) hx hb dX2_teach_73 rfl hl (by decide) rfl (fun ls hl => ?_)
                      refine lv_iload hx hb dX2_teach_74 (lv_at hl 4 rfl) ?_
                      refine lv_bipush (v := nI 10) hx hb dX2_teach_76 (by decide) ?_
                      refine xi_idiv hx hb (by omega) (by decide) (by decide) dX2_teach_78 ?_
                      refine xv_i (y := nI (w0 / 10 ^ (k + 1))) (by rw [div10]) ?_
                      refine lv_istore (lv' := [(4, .int (nI (w0 / 10 ^ (k + 1)))), (3, .int (nI 0)), (0, .ref mo), (1, .int (nI g)), (2, .int (nI w0)), (5, .int (nI k))]) hx hb dX2_teach_79 hl (by decide) rfl (fun ls hl => ?_)
                      refine lv_iinc (v := nI (k + 1)) (lv' := [(5, .int (nI (k + 1))), (4, .int (nI (w0 / 10 ^ (k + 1)))), (3, .int (nI 0)), (0, .ref mo), (1, .int (nI g)), (2, .int (nI w0))]) hx hb dX2_teach_81 hl (k := 5) rfl (nI_1 _) (by decide) rfl (fun ls hl => ?_)
                      refine lv_goto (tgt := 39) hx hb dX2_teach_84 (by decide) ?_
                      exact ih1 (k + 1) 0 (by omega) (by omega) (by omega) (fun _ j hj => by rcases Nat.lt_succ_iff_lt_or_eq.mp hj with q | q; exact hd0 (by omega) j q; subst q; rw [← hdg]; omega) (fun q => absurd q (by decide)) _ (lv_sub hl [3, 4, 5, 2, 1, 0] rfl)
                    · refine lv_iconst (v := nI 1) hx hb dX2_teach_68 (by decide) ?_
                      refine lv_goto (tgt := 73) hx hb dX2_teach_69 (by decide) ?_
                      refine lv_istore_n (lv' := [(3, .int (nI 1)), (0, .ref mo), (1, .int (nI g)), (2, .int (nI w0)), (4, .int (nI (w0 / 10 ^ k))), (5, .int (nI k))]) hx hb dX2_teach_73 rfl hl (by decide) rfl (fun ls hl => ?_)
                      refine lv_iload hx hb dX2_teach_74 (lv_at hl 4 rfl) ?_
                      refine lv_bipush (v := nI 10) hx hb dX2_teach_76 (by decide) ?_
                      refine xi_idiv hx hb (by omega) (by decide) (by decide) dX2_teach_78 ?_
                      refine xv_i (y := nI (w0 / 10 ^ (k + 1))) (by rw [div10]) ?_
                      refine lv_istore (lv' := [(4, .int (nI (w0 / 10 ^ (k + 1)))), (3, .int (nI 1)), (0, .ref mo), (1, .int (nI g)), (2, .int (nI w0)), (5, .int (nI k))]) hx hb dX2_teach_79 hl (by decide) rfl (fun ls hl => ?_)
                      refine lv_iinc (v := nI (k + 1)) (lv' := [(5, .int (nI (k + 1))), (4, .int (nI (w0 / 10 ^ (k + 1)))), (3, .int (nI 1)), (0, .ref mo), (1, .int (nI g)), (2, .int (nI w0))]) hx hb dX2_teach_81 hl (k := 5) rfl (nI_1 _) (by decide) rfl (fun ls hl => ?_)
                      refine lv_goto (tgt := 39) hx hb dX2_teach_84 (by decide) ?_
                      exact ih1 (k + 1) 1 (by omega) (by omega) (by omega) (fun q => absurd q (by decide)) (fun _ hc => by have := hc.2.2 (5 - k) (by omega); rw [← hdg] at this; omega) _ (lv_sub hl [3, 4, 5, 2, 1, 0] rfl)
          exact lp1 _ 0 0 (Nat.lt_succ_self _) (by omega) (by omega) (fun _ j hj => absurd hj (Nat.not_lt_zero _)) (fun q => absurd q (by decide)) _ (lv_sub hl [3, 4, 5, 2, 1, 0] rfl)
        · have hbad : ¬ okT x y := okT_y (inR_hi (by decide) c_24)
          refine lv_iconst (v := nI 1) hx hb dX2_teach_27 (by decide) ?_
          refine lv_goto (tgt := 32) hx hb dX2_teach_28 (by decide) ?_
          refine lv_istore_n (lv' := [(3, .int (nI 1)), (0, .ref mo), (1, .int x), (2, .int y)]) hx hb dX2_teach_32 rfl hl (by decide) rfl (fun ls hl => ?_)
          refine lv_iload_n hx hb dX2_teach_33 rfl (lv_at hl 3 rfl) ?_
          refine lv_istore (lv' := [(4, .int y), (3, .int (nI 1)), (0, .ref mo), (1, .int x), (2, .int y)]) hx hb dX2_teach_34 hl (by decide) rfl (fun ls hl => ?_)
          refine lv_iconst (v := nI 0) hx hb dX2_teach_36 (by decide) ?_
          refine lv_istore (lv' := [(5, .int (nI 0)), (4, .int y), (3, .int (nI 1)), (0, .ref mo), (1, .int x), (2, .int y)]) hx hb dX2_teach_37 hl (by decide) rfl (fun ls hl => ?_)
          refine lv_iload hx hb dX2_teach_39 (lv_at hl 0 rfl) ?_
          refine lv_bipush (v := nI 6) hx hb dX2_teach_41 (by decide) ?_
          refine xi_icmp_ge (tgt := 87) hx hb (by omega) (by omega) dX2_teach_43 (by decide) (fun c_43 => absurd c_43 (by decide)) (fun c_43 => ?_)
          refine lv_iload_n hx hb dX2_teach_46 rfl (lv_at hl 2 rfl) ?_
          refine xi_if_ne (tgt := 87) hx hb (by omega) dX2_teach_47 (by decide) (fun c_47 => ?_) (fun c_47 => absurd c_47 (by decide))
          refine lv_aload_n hx hb dX2_teach_87 rfl (lv_at hl 3 rfl) ?_
          refine lv_iload_n hx hb dX2_teach_88 rfl (lv_at hl 2 rfl) ?_
          refine lv_iconst (v := nI 1) hx hb dX2_teach_89 (by decide) ?_
          refine xq_Vi (n := 2) (As := [.int (nI 1), .int (nI 1)]) (rest := []) (ws := [xo mo 1 [.int (nI 0), .ref m1, .ref m2, .int (nI tn), .ref m4, .ref m5, .int i6, .int (nI pl), .ref m8, .ref m9, .int (nI K), .int (nI G), .int (nI rd), .int (nI tu), .ref m14, .ref m15, .ref m16, .ref m17, .int i18, .int i19, .ref m20, .int (nI bt), .ref m22, .ref m23, .ref m24, .ref m25, .ref m26, .int (nI 0), .int i28, .int i29, .int i30], xi E 0 m1 12 a1, xi E 0 m2 120 a2, xi E 0 m4 2160 a4, xi E 0 m5 2160 a5, xi E 0 m8 189 a8, xi E 0 m9 180 a9, xi E 0 m14 20 a14, xi E 0 m15 20 a15, xi E 0 m16 9 a16, xi E 0 m17 9 a17, xi E 0 m20 20 a20, xi E 0 m22 100 a22, xi E 0 m23 100 a23, xi E 0 m24 100 a24, xi E 0 m25 100 a25, xi E 0 m26 100 a26]) (tl := []) (wc := [xo mo 1 [.int (nI 0), .ref m1, .ref m2, .int (nI tn), .ref m4, .ref m5, .int i6, .int (nI pl), .ref m8, .ref m9, .int (nI K), .int (nI G), .int (nI rd), .int (nI tu), .ref m14, .ref m15, .ref m16, .ref m17, .int i18, .int i19, .ref m20, .int (nI bt), .ref m22, .ref m23, .ref m24, .ref m25, .ref m26, .int (nI 0), .int i28, .int i29, .int i30]]) (wr := [xi E 0 m1 12 a1, xi E 0 m2 120 a2, xi E 0 m4 2160 a4, xi E 0 m5 2160 a5, xi E 0 m8 189 a8, xi E 0 m9 180 a9, xi E 0 m14 20 a14, xi E 0 m15 20 a15, xi E 0 m16 9 a16, xi E 0 m17 9 a17, xi E 0 m20 20 a20, xi E 0 m22 100 a22, xi E 0 m23 100 a23, xi E 0 m24 100 a24, xi E 0 m25 100 a25, xi E 0 m26 100 a26]) (w3 := fun u => [xo mo 1 [.int (nI 1), .ref m1, .ref m2, .int (nI tn), .ref m4, .ref m5, .int i6, .int (nI pl), .ref m8, .ref m9, .int (nI K), .int (nI G), .int (nI rd), .int (nI tu), .ref m14, .ref m15, .ref m16, .ref m17, .int i18, .int i19, .ref m20, .int (nI bt), .ref m22, .ref m23, .ref m24, .ref m25, .ref m26, .int (nI 0), .int i28, .int i29, .int i30], xi E 0 m1 12 a1, xi E 0 m2 120 a2, xi E 0 m4 2160 a4, xi E 0 m5 2160 a5, xi E 0 m8 189 a8, xi E 0 m9 180 a9, xi E 0 m14 20 a14, xi E 0 m15 20 a15, xi E 0 m16 9 a16, xi E 0 m17 9 a17, xi E 0 m20 20 a20, xi E 0 m22 100 a22, xi E 0 m23 100 a23, xi E 0 m24 100 a24, xi E 0 m25 100 a25, xi E 0 m26 100 a26]) ⟨hx, hb, hml, hown, hts⟩ (met_bad1 l D E H_1.size mo [.int (nI 0), .ref m1, .ref m2, .int (nI tn), .ref m4, .ref m5, .int i6, .int (nI pl), .ref m8, .ref m9, .int (nI K), .int (nI G), .int (nI rd), .int (nI tu), .ref m14, .ref m15, .ref m16, .ref m17, .int i18, .int i19, .ref m20, .int (nI bt), .ref m22, .ref m23, .ref m24, .ref m25, .ref m26, .int (nI 0), .int i28, .int i29, .int i30] (nI 1) (Nat.le_of_ble_eq_true rfl)) (lw_V q1037 q1039 qs12 q50 q1040) (by decide +kernel) ⟨(Nat.le_of_ble_eq_true rfl), (Nat.le_of_ble_eq_true rfl)⟩ rfl rfl hK hN hP hD hS hA [0] [1, 2, 3, 4, 5, 6, 7, 8, 9, 10, 11, 12, 13, 14, 15, 16] [16, 0, 1, 2, 3, 4, 5, 6, 7, 8, 9, 10, 11, 12, 13, 14, 15] rfl rfl rfl rfl rfl (by decide) (fun _ => rfl) (q0 := 0) rfl rfl rfl rfl hl.1 rfl (Nat.le_of_ble_eq_true rfl) dX2_teach_90 ⟨(Nat.le_of_ble_eq_true rfl), (Nat.le_of_ble_eq_true rfl)⟩ (fun r_10 u_10 H_10 locs_10 h_10 hP hD hS => ?_)
          obtain ⟨u0_10, rfl⟩ : ∃ z, z = u_10 := ⟨_, rfl⟩
          have hP : va_P D vwCl [xo mo 1 [.int (nI 1), .ref m1, .ref m2, .int (nI tn), .ref m4, .ref m5, .int i6, .int (nI pl), .ref m8, .ref m9, .int (nI K), .int (nI G), .int (nI rd), .int (nI tu), .ref m14, .ref m15, .ref m16, .ref m17, .int i18, .int i19, .ref m20, .int (nI bt), .ref m22, .ref m23, .ref m24, .ref m25, .ref m26, .int (nI 0), .int i28, .int i29, .int i30], xi E 0 m1 12 a1, xi E 0 m2 120 a2, xi E 0 m4 2160 a4, xi E 0 m5 2160 a5, xi E 0 m8 189 a8, xi E 0 m9 180 a9, xi E 0 m14 20 a14, xi E 0 m15 20 a15, xi E 0 m16 9 a16, xi E 0 m17 9 a17, xi E 0 m20 20 a20, xi E 0 m22 100 a22, xi E 0 m23 100 a23, xi E 0 m24 100 a24, xi E 0 m25 100 a25, xi E 0 m26 100 a26] H_10 := hP
          have hD : va_D A [xo mo 1 [.int (nI 1), .ref m1, .ref m2, .int (nI tn), .ref m4, .ref m5, .int i6, .int (nI pl), .ref m8, .ref m9, .int (nI K), .int (nI G), .int (nI rd), .int (nI tu), .ref m14, .ref m15, .ref m16, .ref m17, .int i18, .int i19, .ref m20, .int (nI bt), .ref m22, .ref m23, .ref m24, .ref m25, .ref m26, .int (nI 0), .int i28, .int i29, .int i30], xi E 0 m1 12 a1, xi E 0 m2 120 a2, xi E 0 m4 2160 a4, xi E 0 m5 2160 a5, xi E 0 m8 189 a8, xi E 0 m9 180 a9, xi E 0 m14 20 a14, xi E 0 m15 20 a15, xi E 0 m16 9 a16, xi E 0 m17 9 a17, xi E 0 m20 20 a20, xi E 0 m22 100 a22, xi E 0 m23 100 a23, xi E 0 m24 100 a24, xi E 0 m25 100 a25, xi E 0 m26 100 a26] := hD
          subst h_10
          refine xi_if_eq (tgt := 98) hx hb (by omega) dX2_teach_93 (by decide) (fun c_93 => absurd c_93 (by decide)) (fun c_93 => ?_)
          refine lv_iconst (v := nI 0) hx hb dX2_teach_96 (by decide) ?_
          refine W.widen (k := 0) (n := 0) (Nat.le_of_ble_eq_true rfl) (Nat.le_of_ble_eq_true rfl) ?_
          exact W.iret (v := nI 0) hx hb hr (fun t9 ht9 hW9 => ⟨⟨_, [xo mo 1 [.int (nI 1), .ref m1, .ref m2, .int (nI tn), .ref m4, .ref m5, .int i6, .int (nI pl), .ref m8, .ref m9, .int (nI K), .int (nI G), .int (nI rd), .int (nI tu), .ref m14, .ref m15, .ref m16, .ref m17, .int i18, .int i19, .ref m20, .int (nI bt), .ref m22, .ref m23, .ref m24, .ref m25, .ref m26, .int (nI 0), .int i28, .int i29, .int i30], xi E 0 m1 12 a1, xi E 0 m2 120 a2, xi E 0 m4 2160 a4, xi E 0 m5 2160 a5, xi E 0 m8 189 a8, xi E 0 m9 180 a9, xi E 0 m14 20 a14, xi E 0 m15 20 a15, xi E 0 m16 9 a16, xi E 0 m17 9 a17, xi E 0 m20 20 a20, xi E 0 m22 100 a22, xi E 0 m23 100 a23, xi E 0 m24 100 a24, xi E 0 m25 100 a25, xi E 0 m26 100 a26], rfl, ⟨fun hc => absurd hc hbad, fun _ => ⟨m1, m2, m4, m5, m8, m9, m14, m15, m16, m17, m20, m22, m23, m24, m25, m26, i6, i18, i19, i28, i29, i30, a1, a2, a4, a5, a8, a9, a14, a15, a16, a17, a20, a22, a23, a24, a25, a26, hw1, hw2, hw3, hw4, rfl⟩⟩, by rw [ht9]; exact hP, hD⟩, hS.F ht9⟩) hS.2.2 dX2_teach_97
set_option maxHeartbeats 4000000 in
set_option maxRecDepth 100000 in
/-- it fits never: it has not eighteen places -/
theorem met_fits0 (l : Launch) (D : va_G) (E : Nat → ClassId) (mo : Nat) (fs : List Value) (rd pl : Nat) (h12 : fs[12]? = some (.int (nI rd))) (h7 : fs[7]? = some (.int (nI pl))) (hrd : rd < 2) (hpl : pl < 18) : Met l yX2_fits (ws_ yX2_fits cX2_fits 1 (some .boolean)) (rmD 1 0 0) (va_Pc [.ref mo] (xB D E [xo mo 1 fs])) (vp_Si (fun r => r = nI 0)) 0 0 (fun _ => False) := by
  refine Met.ofW (cc := cX2_fits) (maxL := 1) (ret := (some .boolean)) (by decide) rfl ?_
  intro p e s m args below meth c s₁ B hml hv0
  obtain ⟨rfl, hP, hK, hN⟩ := hv0
  have hx := B.exec
  have hb := B.bytes
  have hr := B.returns
  have hts := atoms_spec (ws := (ws_ yX2_fits cX2_fits 1 (some .boolean))) B.pre
  have hts : ∀ w ∈ lw_all, w.before _ s = true := fun w h => hts w (List.mem_cons_of_mem _ h)
  have hown : s.vm.findClass RX2 = some m.cls := findClass_of_methodNamed B.named
  have hlocks := B.notSynchronized
  have hP : va_P D vwCl [xo mo 1 fs] s.heap := hP
  have hl := lv_entry ([.ref mo]) (n := 1) (Nat.le_of_ble_eq_true rfl)
  rw [lg_entry_eq]
  generalize (lg_sl ([.ref mo]) ++ List.replicate (1 - (lg_sl ([.ref mo])).length) Slot.unset).toArray = ls at hl ⊢
  have hl : lv_has ls 1 [(0, .ref mo)] := hl
  refine lv_aload_n hx hb dX2_fits_0 rfl (lv_at hl 0 rfl) ?_
  refine va_get (D := D) (ci := 1) (v := .int (nI rd)) (C := RX2) (T := TX2) (N := 31) hx hb hts in_X2 hown hK hP 0 rfl rfl 12 (by decide) (hts _ q945) (fun _ h9 => h9) h12 dX2_fits_1 ?_
  refine xi_if_eq (tgt := 16) hx hb (by omega) dX2_fits_4 (by decide) (fun c_4 => ?_) (fun c_4 => ?_)
  · refine lv_iconst (v := nI 0) hx hb dX2_fits_16 (by decide) ?_
    exact W.zret (v := nI 0) hx hb hr rfl (fun t9 ht9 hW9 => ⟨_, rfl, rfl, ht9⟩) t_nil dX2_fits_17
  · refine lv_aload_n hx hb dX2_fits_7 rfl (lv_at hl 0 rfl) ?_
    refine va_get (D := D) (ci := 1) (v := .int (nI pl)) (C := RX2) (T := TX2) (N := 31) hx hb hts in_X2 hown hK hP 0 rfl rfl 7 (by decide) (hts _ q940) (fun _ h9 => h9) h7 dX2_fits_8 ?_
    refine lv_bipush (v := nI 18) hx hb dX2_fits_11 (by decide) ?_
    refine xi_icmp_eq (tgt := 18) hx hb (by omega) (by omega) dX2_fits_13 (by decide) (fun c_13 => absurd c_13 (by omega)) (fun c_13 => ?_)
    refine lv_iconst (v := nI 0) hx hb dX2_fits_16 (by decide) ?_
    exact W.zret (v := nI 0) hx hb hr rfl (fun t9 ht9 hW9 => ⟨_, rfl, rfl, ht9⟩) t_nil dX2_fits_17
set_option maxHeartbeats 4000000 in
set_option maxRecDepth 100000 in
/-- no others -/
theorem met_finds0 (l : Launch) (D : va_G) (E : Nat → ClassId) (mo : Nat) (fs : List Value) (rd pl : Nat) (h12 : fs[12]? = some (.int (nI rd))) (h7 : fs[7]? = some (.int (nI pl))) (hrd : rd < 2) (hpl : pl < 18) (k : Int32) : Met l yX2_finds (ws_ yX2_finds cX2_finds 7 (some .int)) (rmD 1 0 0) (va_Pc [.ref mo, .int k] (xB D E [xo mo 1 fs])) (vp_Si (fun r => r = nI 0)) 0 0 (fun _ => False) := by
  refine Met.ofW (cc := cX2_finds) (maxL := 7) (ret := (some .int)) (by decide) rfl ?_
  intro p e s m args below meth c s₁ B hml hv0
  obtain ⟨rfl, hP, hK, hN⟩ := hv0
  have hx := B.exec
  have hb := B.bytes
  have hr := B.returns
  have hts := atoms_spec (ws := (ws_ yX2_finds cX2_finds 7 (some .int))) B.pre
  have hts : ∀ w ∈ lw_all, w.before _ s = true := fun w h => hts w (List.mem_cons_of_mem _ h)
  have hown : s.vm.findClass RX2 = some m.cls := findClass_of_methodNamed B.named
  have hlocks := B.notSynchronized
  have hP : va_P D vwCl [xo mo 1 fs] s.heap := hP
  have hl := lv_entry ([.ref mo, .int k]) (n := 7) (Nat.le_of_ble_eq_true rfl)
  rw [lg_entry_eq]
  generalize (lg_sl ([.ref mo, .int k]) ++ List.replicate (7 - (lg_sl ([.ref mo, .int k])).length) Slot.unset).toArray = ls at hl ⊢
  have hl : lv_has ls 7 [(0, .ref mo), (1, .int k)] := hl
  refine lv_iconst (v := nI 0) hx hb dX2_finds_0 (by decide) ?_
  refine lv_istore_n (lv' := [(2, .int (nI 0)), (0, .ref mo), (1, .int k)]) hx hb dX2_finds_1 rfl hl (by decide) rfl (fun ls hl => ?_)
  refine lv_aload_n hx hb dX2_finds_2 rfl (lv_at hl 1 rfl) ?_
  refine va_get (D := D) (ci := 1) (v := .int (nI rd)) (C := RX2) (T := TX2) (N := 31) hx hb hts in_X2 hown hK hP 0 rfl rfl 12 (by decide) (hts _ q945) (fun _ h9 => h9) h12 dX2_finds_3 ?_
  refine xi_if_eq (tgt := 18) hx hb (by omega) dX2_finds_6 (by decide) (fun c_6 => ?_) (fun c_6 => ?_)
  · refine lv_iconst (v := nI 0) hx hb dX2_finds_18 (by decide) ?_
    exact W.iret (v := nI 0) hx hb hr (fun t9 ht9 hW9 => ⟨_, rfl, rfl, ht9⟩) t_nil dX2_finds_19
  · refine lv_aload_n hx hb dX2_finds_9 rfl (lv_at hl 1 rfl) ?_
    refine va_get (D := D) (ci := 1) (v := .int (nI pl)) (C := RX2) (T := TX2) (N := 31) hx hb hts in_X2 hown hK hP 0 rfl rfl 7 (by decide) (hts _ q940) (fun _ h9 => h9) h7 dX2_finds_10 ?_
    refine lv_bipush (v := nI 18) hx hb dX2_finds_13 (by decide) ?_
    refine xi_icmp_eq (tgt := 20) hx hb (by omega) (by omega) dX2_finds_15 (by decide) (fun c_15 => absurd c_15 (by omega)) (fun c_15 => ?_)
    refine lv_iconst (v := nI 0) hx hb dX2_finds_18 (by decide) ?_
    exact W.iret (v := nI 0) hx hb hr (fun t9 ht9 hW9 => ⟨_, rfl, rfl, ht9⟩) t_nil dX2_finds_19
set_option maxHeartbeats 4000000 in
set_option maxRecDepth 100000 in
/-- no twin -/
theorem met_twinOf0 (l : Launch) (D : va_G) (E : Nat → ClassId) (mo : Nat) (fs : List Value) (rd pl : Nat) (h12 : fs[12]? = some (.int (nI rd))) (h7 : fs[7]? = some (.int (nI pl))) (hrd : rd < 2) (hpl : pl < 18) : Met l yX2_twinOf (ws_ yX2_twinOf cX2_twinOf 2 (some .int)) (rmD 2 0 0) (va_Pc [.ref mo] (xB D E [xo mo 1 fs])) (vp_Si (fun r => r = -1)) 0 0 (fun _ => False) := by
  refine Met.ofW (cc := cX2_twinOf) (maxL := 2) (ret := (some .int)) (by decide) rfl ?_
  intro p e s m args below meth c s₁ B hml hv0
  obtain ⟨rfl, hP, hK, hN⟩ := hv0
  have hx := B.exec
  have hb := B.bytes
  have hr := B.returns
  have hts := atoms_spec (ws := (ws_ yX2_twinOf cX2_twinOf 2 (some .int))) B.pre
  have hts : ∀ w ∈ lw_all, w.before _ s = true := fun w h => hts w (List.mem_cons_of_mem _ h)
  have hown : s.vm.findClass RX2 = some m.cls := findClass_of_methodNamed B.named
  have hlocks := B.notSynchronized
  have hP : va_P D vwCl [xo mo 1 fs] s.heap := hP
  have hl := lv_entry ([.ref mo]) (n := 2) (Nat.le_of_ble_eq_true rfl)
  rw [lg_entry_eq]
  generalize (lg_sl ([.ref mo]) ++ List.replicate (2 - (lg_sl ([.ref mo])).length) Slot.unset).toArray = ls at hl ⊢
  have hl : lv_has ls 2 [(0, .ref mo)] := hl
  refine lv_aload_n hx hb dX2_twinOf_0 rfl (lv_at hl 0 rfl) ?_
  refine xs_Vi (n := 0) (As := []) (rest := []) (ws := [xo mo 1 fs]) (tl := []) (wc := [xo mo 1 fs]) ⟨hx, hb, hml, hown, hts⟩ (met_fits0 l D E mo fs rd pl h12 h7 hrd hpl) (lw_V q1088 q1090 qs20 q50 q1091) (by decide +kernel) ⟨(Nat.le_of_ble_eq_true rfl), (Nat.le_of_ble_eq_true rfl)⟩ rfl rfl hK hN hP [0] rfl (q0 := 0) rfl rfl rfl rfl hl.1 rfl (Nat.le_of_ble_eq_true rfl) dX2_twinOf_1 ⟨(Nat.le_of_ble_eq_true rfl), (Nat.le_of_ble_eq_true rfl)⟩ (fun r_1 h_1 => ?_)
  subst h_1
  refine xi_if_ne (tgt := 9) hx hb (by omega) dX2_twinOf_4 (by decide) (fun c_4 => absurd c_4 (by decide)) (fun c_4 => ?_)
  refine lv_iconst (v := (-1)) hx hb dX2_twinOf_7 (by decide) ?_
  exact W.iret (v := (-1)) hx hb hr (fun t9 ht9 hW9 => ⟨_, rfl, rfl, ht9⟩) t_nil dX2_twinOf_8
set_option maxHeartbeats 4000000 in
set_option maxRecDepth 100000 in
/-- a batch that is there -/
theorem met_isBatch1 (l : Launch) (D : va_G) (E : Nat → ClassId) (sz : Nat) (mo : Nat) (fs : List Value) (bt : Nat) (hlen : 0 < fs.length) (h21 : fs[21]? = some (.int (nI bt))) (hbt : bt < 1000) (k : Nat) (hk : k < bt) : Met l yX2_isBatch (ws_ yX2_isBatch cX2_isBatch 2 (some .boolean)) (rmD 1 0 0) (va_Pc [.ref mo, .int (nI k)] (xQ D E [xo mo 1 fs] sz)) (va_Qi (fun r (_ : Unit) => r = nI 1) (fun (u : Unit) t8 => xR D E (va_A [xo mo 1 fs] sz) ((fun _ => [xo mo 1 (fs.set 0 (.int (nI 0)))]) u) t8) (va_A [xo mo 1 fs] sz)) 0 0 (va_A [xo mo 1 fs] sz) := by
  refine Met.ofW (cc := cX2_isBatch) (maxL := 2) (ret := (some .boolean)) (by decide) rfl ?_
  intro p e s m args below meth c s₁ B hml hv0
  obtain ⟨rfl, hsz, hP, hK, hD0, hN⟩ := hv0
  have hx := B.exec
  have hb := B.bytes
  have hr := B.returns
  have hts := atoms_spec (ws := (ws_ yX2_isBatch cX2_isBatch 2 (some .boolean))) B.pre
  have hts : ∀ w ∈ lw_all, w.before _ s = true := fun w h => hts w (List.mem_cons_of_mem _ h)
  have hown : s.vm.findClass RX2 = some m.cls := findClass_of_methodNamed B.named
  have hlocks := B.notSynchronized
  subst hsz
  have hD := hD0.self (sz := s.heap.size)
  generalize hAe : va_A [xo mo 1 fs] s.heap.size = A at hD ⊢
  have hA : ∀ q : Nat, s.heap.size ≤ q → A q := fun q h => by rw [← hAe]; exact Or.inr h
  have hS : va_S A s.heap s.heap [] := va_S.rf
  have hP : va_P D vwCl [xo mo 1 fs] s.heap := hP
  have hD : va_D A [xo mo 1 fs] := hD
  have hl := lv_entry ([.ref mo, .int (nI k)]) (n := 2) (Nat.le_of_ble_eq_true rfl)
  rw [lg_entry_eq]
  generalize (lg_sl ([.ref mo, .int (nI k)]) ++ List.replicate (2 - (lg_sl ([.ref mo, .int (nI k)])).length) Slot.unset).toArray = ls at hl ⊢
  have hl : lv_has ls 2 [(0, .ref mo), (1, .int (nI k))] := hl
  refine lv_aload_n hx hb dX2_isBatch_0 rfl (lv_at hl 0 rfl) ?_
  refine lv_iload_n hx hb dX2_isBatch_1 rfl (lv_at hl 1 rfl) ?_
  refine xi_if_lt (tgt := 13) hx hb (by omega) dX2_isBatch_2 (by decide) ?_
  refine lv_iload_n hx hb dX2_isBatch_5 rfl (lv_at hl 1 rfl) ?_
  refine lv_aload_n hx hb dX2_isBatch_6 rfl (lv_at hl 0 rfl) ?_
  refine va_get (D := D) (ci := 1) (v := .int (nI bt)) (C := RX2) (T := TX2) (N := 31) hx hb hts in_X2 hown hK hP 0 rfl rfl 21 (by decide) (hts _ q954) (fun _ h9 => h9) h21 dX2_isBatch_7 ?_
  refine xi_icmp_lt (tgt := 17) hx hb (by omega) (by omega) dX2_isBatch_10 (by decide) (fun c_10 => ?_) (fun c_10 => absurd c_10 (by omega))
  refine lv_iconst (v := nI 0) hx hb dX2_isBatch_17 (by decide) ?_
  refine va_put (D := D) (ci := 1) (v := .int (nI 0)) (ty := .int) (C := RX2) (T := TX2) (N := 31) hx hb hts in_X2 tyX2 tyX2_ok nmX2 hown hK hP hD hS 0 rfl rfl 0 (by decide) (hts _ q933) (fun _ h9 => h9) rfl (by decide +kernel) rfl rfl hlen dX2_isBatch_18 (fun H_1 locs_1 hP hD hS => ?_)
  have hP : va_P D vwCl [xo mo 1 (fs.set 0 (.int (nI 0)))] H_1 := hP
  have hD : va_D A [xo mo 1 (fs.set 0 (.int (nI 0)))] := hD
  refine lv_aload_n hx hb dX2_isBatch_21 rfl (lv_at hl 0 rfl) ?_
  refine va_get (D := D) (ci := 1) (v := .int (nI 0)) (C := RX2) (T := TX2) (N := 31) hx hb hts in_X2 hown hK hP 0 rfl rfl 0 (by decide) (hts _ q933) (fun _ h9 => h9) (List.getElem?_set_self hlen) dX2_isBatch_22 ?_
  refine xi_if_ne (tgt := 32) hx hb (by omega) dX2_isBatch_25 (by decide) (fun c_25 => absurd c_25 (by decide)) (fun c_25 => ?_)
  refine lv_iconst (v := nI 1) hx hb dX2_isBatch_28 (by decide) ?_
  refine lv_goto (tgt := 33) hx hb dX2_isBatch_29 (by decide) ?_
  refine W.widen (k := 0) (n := 0) (Nat.le_of_ble_eq_true rfl) (Nat.le_of_ble_eq_true rfl) ?_
  exact W.zret (v := nI 1) hx hb hr rfl (fun t9 ht9 hW9 => ⟨⟨_, (), rfl, rfl, by rw [ht9]; exact hP, hD⟩, hS.F ht9⟩) hS.2.2 dX2_isBatch_33
set_option maxHeartbeats 4000000 in
set_option maxRecDepth 100000 in
/-- no such batch -/
theorem met_isBatch0 (l : Launch) (D : va_G) (E : Nat → ClassId) (sz : Nat) (mo : Nat) (fs : List Value) (bt : Nat) (hlen : 0 < fs.length) (h21 : fs[21]? = some (.int (nI bt))) (hbt : bt < 1000) (x : Int32) (hx9 : ¬ inB bt x) : Met l yX2_isBatch (ws_ yX2_isBatch cX2_isBatch 2 (some .boolean)) (rmD 1 0 0) (va_Pc [.ref mo, .int x] (xQ D E [xo mo 1 fs] sz)) (va_Qi (fun r (_ : Unit) => r = nI 0) (fun (u : Unit) t8 => xR D E (va_A [xo mo 1 fs] sz) ((fun _ => [xo mo 1 (fs.set 0 (.int (nI 1)))]) u) t8) (va_A [xo mo 1 fs] sz)) 0 0 (va_A [xo mo 1 fs] sz) := by
  refine Met.ofW (cc := cX2_isBatch) (maxL := 2) (ret := (some .boolean)) (by decide) rfl ?_
  intro p e s m args below meth c s₁ B hml hv0
  obtain ⟨rfl, hsz, hP, hK, hD0, hN⟩ := hv0
  have hx := B.exec
  have hb := B.bytes
  have hr := B.returns
  have hts := atoms_spec (ws := (ws_ yX2_isBatch cX2_isBatch 2 (some .boolean))) B.pre
  have hts : ∀ w ∈ lw_all, w.before _ s = true := fun w h => hts w (List.mem_cons_of_mem _ h)
  have hown : s.vm.findClass RX2 = some m.cls := findClass_of_methodNamed B.named
  have hlocks := B.notSynchronized
  subst hsz
  have hD := hD0.self (sz := s.heap.size)
  generalize hAe : va_A [xo mo 1 fs] s.heap.size = A at hD ⊢
  have hA : ∀ q : Nat, s.heap.size ≤ q → A q := fun q h => by rw [← hAe]; exact Or.inr h
  have hS : va_S A s.heap s.heap [] := va_S.rf
  have hP : va_P D vwCl [xo mo 1 fs] s.heap := hP
  have hD : va_D A [xo mo 1 fs] := hD
  have hl := lv_entry ([.ref mo, .int x]) (n := 2) (Nat.le_of_ble_eq_true rfl)
  rw [lg_entry_eq]
  generalize (lg_sl ([.ref mo, .int x]) ++ List.replicate (2 - (lg_sl ([.ref mo, .int x])).length) Slot.unset).toArray = ls at hl ⊢
  have hl : lv_has ls 2 [(0, .ref mo), (1, .int x)] := hl
  refine lv_aload_n hx hb dX2_isBatch_0 rfl (lv_at hl 0 rfl) ?_
  refine lv_iload_n hx hb dX2_isBatch_1 rfl (lv_at hl 1 rfl) ?_
  refine lv_if_lt (tgt := 13) hx hb dX2_isBatch_2 (by decide) (fun c_2 => ?_) (fun c_2 => ?_)
  · refine lv_iconst (v := nI 1) hx hb dX2_isBatch_13 (by decide) ?_
    refine lv_goto (tgt := 18) hx hb dX2_isBatch_14 (by decide) ?_
    refine va_put (D := D) (ci := 1) (v := .int (nI 1)) (ty := .int) (C := RX2) (T := TX2) (N := 31) hx hb hts in_X2 tyX2 tyX2_ok nmX2 hown hK hP hD hS 0 rfl rfl 0 (by decide) (hts _ q933) (fun _ h9 => h9) rfl (by decide +kernel) rfl rfl hlen dX2_isBatch_18 (fun H_1 locs_1 hP hD hS => ?_)
    have hP : va_P D vwCl [xo mo 1 (fs.set 0 (.int (nI 1)))] H_1 := hP
    have hD : va_D A [xo mo 1 (fs.set 0 (.int (nI 1)))] := hD
    refine lv_aload_n hx hb dX2_isBatch_21 rfl (lv_at hl 0 rfl) ?_
    refine va_get (D := D) (ci := 1) (v := .int (nI 1)) (C := RX2) (T := TX2) (N := 31) hx hb hts in_X2 hown hK hP 0 rfl rfl 0 (by decide) (hts _ q933) (fun _ h9 => h9) (List.getElem?_set_self hlen) dX2_isBatch_22 ?_
    refine xi_if_ne (tgt := 32) hx hb (by omega) dX2_isBatch_25 (by decide) (fun c_25 => ?_) (fun c_25 => absurd c_25 (by decide))
    refine lv_iconst (v := nI 0) hx hb dX2_isBatch_32 (by decide) ?_
    refine W.widen (k := 0) (n := 0) (Nat.le_of_ble_eq_true rfl) (Nat.le_of_ble_eq_true rfl) ?_
    exact W.zret (v := nI 0) hx hb hr rfl (fun t9 ht9 hW9 => ⟨⟨_, (), rfl, rfl, by rw [ht9]; exact hP, hD⟩, hS.F ht9⟩) hS.2.2 dX2_isBatch_33
  · refine lv_iload_n hx hb dX2_isBatch_5 rfl (lv_at hl 1 rfl) ?_
    refine lv_aload_n hx hb dX2_isBatch_6 rfl (lv_at hl 0 rfl) ?_
    refine va_get (D := D) (ci := 1) (v := .int (nI bt)) (C := RX2) (T := TX2) (N := 31) hx hb hts in_X2 hown hK hP 0 rfl rfl 21 (by decide) (hts _ q954) (fun _ h9 => h9) h21 dX2_isBatch_7 ?_
    refine lv_icmp_lt (tgt := 17) hx hb dX2_isBatch_10 (by decide) (fun c_10 => ?_) (fun c_10 => ?_)
    · exact absurd (inL_mk (by omega) c_2 c_10) hx9
    · refine lv_iconst (v := nI 1) hx hb dX2_isBatch_13 (by decide) ?_
      refine lv_goto (tgt := 18) hx hb dX2_isBatch_14 (by decide) ?_
      refine va_put (D := D) (ci := 1) (v := .int (nI 1)) (ty := .int) (C := RX2) (T := TX2) (N := 31) hx hb hts in_X2 tyX2 tyX2_ok nmX2 hown hK hP hD hS 0 rfl rfl 0 (by decide) (hts _ q933) (fun _ h9 => h9) rfl (by decide +kernel) rfl rfl hlen dX2_isBatch_18 (fun H_2 locs_2 hP hD hS => ?_)
      have hP : va_P D vwCl [xo mo 1 (fs.set 0 (.int (nI 1)))] H_2 := hP
      have hD : va_D A [xo mo 1 (fs.set 0 (.int (nI 1)))] := hD
      refine lv_aload_n hx hb dX2_isBatch_21 rfl (lv_at hl 0 rfl) ?_
      refine va_get (D := D) (ci := 1) (v := .int (nI 1)) (C := RX2) (T := TX2) (N := 31) hx hb hts in_X2 hown hK hP 0 rfl rfl 0 (by decide) (hts _ q933) (fun _ h9 => h9) (List.getElem?_set_self hlen) dX2_isBatch_22 ?_
      refine xi_if_ne (tgt := 32) hx hb (by omega) dX2_isBatch_25 (by decide) (fun c_25 => ?_) (fun c_25 => absurd c_25 (by decide))
      refine lv_iconst (v := nI 0) hx hb dX2_isBatch_32 (by decide) ?_
      refine W.widen (k := 0) (n := 0) (Nat.le_of_ble_eq_true rfl) (Nat.le_of_ble_eq_true rfl) ?_
      exact W.zret (v := nI 0) hx hb hr rfl (fun t9 ht9 hW9 => ⟨⟨_, (), rfl, rfl, by rw [ht9]; exact hP, hD⟩, hS.F ht9⟩) hS.2.2 dX2_isBatch_33
set_option maxHeartbeats 4000000 in
set_option maxRecDepth 100000 in
/-- a long that is an amount -/
theorem met_isAmount1 (l : Launch) (D : va_G) (E : Nat → ClassId) (v : Int64) (hv : isAm v) : Met l yX2_isAmount (ws_ yX2_isAmount cX2_isAmount 2 (some .boolean)) (rmD 1 0 0) (va_Pc [.long v] (xB D E [])) (vp_Si (fun r => r = nI 1)) 0 0 (fun _ => False) := by
  refine Met.ofW (cc := cX2_isAmount) (maxL := 2) (ret := (some .boolean)) (by decide) rfl ?_
  intro p e s m args below meth c s₁ B hml hv0
  obtain ⟨rfl, hP, hK, hN⟩ := hv0
  have hx := B.exec
  have hb := B.bytes
  have hr := B.returns
  have hts := atoms_spec (ws := (ws_ yX2_isAmount cX2_isAmount 2 (some .boolean))) B.pre
  have hts : ∀ w ∈ lw_all, w.before _ s = true := fun w h => hts w (List.mem_cons_of_mem _ h)
  have hown : s.vm.findClass RX2 = some m.cls := findClass_of_methodNamed B.named
  have hlocks := B.notSynchronized
  have hP : va_P D vwCl [] s.heap := hP
  have hl := lv_entry ([.long v]) (n := 2) (Nat.le_of_ble_eq_true rfl)
  rw [lg_entry_eq]
  generalize (lg_sl ([.long v]) ++ List.replicate (2 - (lg_sl ([.long v])).length) Slot.unset).toArray = ls at hl ⊢
  have hl : lv_has ls 2 [(0, .long v)] := hl
  refine lv_lload_n hx hb dX2_isAmount_0 rfl (lv_at hl 0 rfl) ?_
  refine lv_lconst (v := 0) hx hb dX2_isAmount_1 (by decide) ?_
  refine W.lcmp hx hb dX2_isAmount_2 ?_
  refine lv_if_lt (tgt := 18) hx hb dX2_isAmount_3 (by decide) (fun c_3 => absurd c_3 (fun q => lg_lt_not_le ((lg_cmp_lt _ _).mp q) hv.1)) (fun c_3 => ?_)
  refine lv_lload_n hx hb dX2_isAmount_6 rfl (lv_at hl 0 rfl) ?_
  refine lv_ldc2 hx hb hown (hts _ q1152) dX2_isAmount_7 ?_
  refine W.lcmp hx hb dX2_isAmount_10 ?_
  refine lv_if_gt (tgt := 18) hx hb dX2_isAmount_11 (by decide) (fun c_11 => absurd c_11 (fun q => lg_lt_not_le ((lg_cmp_gt _ _).mp q) hv.2)) (fun c_11 => ?_)
  refine lv_iconst (v := nI 1) hx hb dX2_isAmount_14 (by decide) ?_
  refine lv_goto (tgt := 19) hx hb dX2_isAmount_15 (by decide) ?_
  exact W.zret (v := nI 1) hx hb hr rfl (fun t9 ht9 hW9 => ⟨_, rfl, rfl, ht9⟩) t_nil dX2_isAmount_19
set_option maxHeartbeats 4000000 in
set_option maxRecDepth 100000 in
/-- a long that is none -/
theorem met_isAmount0 (l : Launch) (D : va_G) (E : Nat → ClassId) (v : Int64) (hv : ¬ isAm v) : Met l yX2_isAmount (ws_ yX2_isAmount cX2_isAmount 2 (some .boolean)) (rmD 1 0 0) (va_Pc [.long v] (xB D E [])) (vp_Si (fun r => r = nI 0)) 0 0 (fun _ => False) := by
  refine Met.ofW (cc := cX2_isAmount) (maxL := 2) (ret := (some .boolean)) (by decide) rfl ?_
  intro p e s m args below meth c s₁ B hml hv0
  obtain ⟨rfl, hP, hK, hN⟩ := hv0
  have hx := B.exec
  have hb := B.bytes
  have hr := B.returns
  have hts := atoms_spec (ws := (ws_ yX2_isAmount cX2_isAmount 2 (some .boolean))) B.pre
  have hts : ∀ w ∈ lw_all, w.before _ s = true := fun w h => hts w (List.mem_cons_of_mem _ h)
  have hown : s.vm.findClass RX2 = some m.cls := findClass_of_methodNamed B.named
  have hlocks := B.notSynchronized
  have hP : va_P D vwCl [] s.heap := hP
  have hl := lv_entry ([.long v]) (n := 2) (Nat.le_of_ble_eq_true rfl)
  rw [lg_entry_eq]
  generalize (lg_sl ([.long v]) ++ List.replicate (2 - (lg_sl ([.long v])).length) Slot.unset).toArray = ls at hl ⊢
  have hl : lv_has ls 2 [(0, .long v)] := hl
  refine lv_lload_n hx hb dX2_isAmount_0 rfl (lv_at hl 0 rfl) ?_
  refine lv_lconst (v := 0) hx hb dX2_isAmount_1 (by decide) ?_
  refine W.lcmp hx hb dX2_isAmount_2 ?_
  refine lv_if_lt (tgt := 18) hx hb dX2_isAmount_3 (by decide) (fun c_3 => ?_) (fun c_3 => ?_)
  · refine lv_iconst (v := nI 0) hx hb dX2_isAmount_18 (by decide) ?_
    exact W.zret (v := nI 0) hx hb hr rfl (fun t9 ht9 hW9 => ⟨_, rfl, rfl, ht9⟩) t_nil dX2_isAmount_19
  · refine lv_lload_n hx hb dX2_isAmount_6 rfl (lv_at hl 0 rfl) ?_
    refine lv_ldc2 hx hb hown (hts _ q1152) dX2_isAmount_7 ?_
    refine W.lcmp hx hb dX2_isAmount_10 ?_
    refine lv_if_gt (tgt := 18) hx hb dX2_isAmount_11 (by decide) (fun c_11 => ?_) (fun c_11 => ?_)
    · refine lv_iconst (v := nI 0) hx hb dX2_isAmount_18 (by decide) ?_
      exact W.zret (v := nI 0) hx hb hr rfl (fun t9 ht9 hW9 => ⟨_, rfl, rfl, ht9⟩) t_nil dX2_isAmount_19
    · refine absurd ⟨?_, ?_⟩ hv
      · rcases lg_tri v 0 with q | q | q
        · exact absurd ((lg_cmp_lt _ _).mpr q) c_3
        · rw [q]; decide
        · exact Int64.le_of_lt q
      · rcases lg_tri v 9999999 with q | q | q
        · exact Int64.le_of_lt q
        · rw [q]; exact Int64.le_refl _
        · exact absurd ((lg_cmp_gt _ _).mpr q) c_11
