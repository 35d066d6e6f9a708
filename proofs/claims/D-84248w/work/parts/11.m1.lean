set_option maxRecDepth 100000
set_option maxHeartbeats 4000000 in
set_option maxRecDepth 100000 in
/-- the least of a row at speeds near v -/
theorem met_near (l : Launch) (D : va_G) (E : Nat → ClassId) (q n : Nat) (a : Nat → Int32) (o v : Nat) (f : Nat → Nat) (hn : o + 9 ≤ n) (hn2 : n < 2147483648) (hv : v < 9) (hf : ∀ w, w < 9 → a (o + w) = nI (f w)) (hfb : ∀ w, w < 9 → f w < 2147483648) : Met l yX2_near (ws_ yX2_near cX2_near 4 (some .int)) (rmD 1 0 0) (va_Pc [.ref q, .int (nI o), .int (nI v)] (xB D E [xi E 0 q n a])) (vp_Si (fun r => r = nI (nr f v))) 0 0 (fun _ => False) := by
  refine Met.ofW (cc := cX2_near) (maxL := 4) (ret := (some .int)) (by decide) rfl ?_
  intro p e s m args below meth c s₁ B hml hv0
  obtain ⟨rfl, hP, hK, hN⟩ := hv0
  have hx := B.exec
  have hb := B.bytes
  have hr := B.returns
  have hts := atoms_spec (ws := (ws_ yX2_near cX2_near 4 (some .int))) B.pre
  have hts : ∀ w ∈ lw_all, w.before _ s = true := fun w h => hts w (List.mem_cons_of_mem _ h)
  have hown : s.vm.findClass RX2 = some m.cls := findClass_of_methodNamed B.named
  have hlocks := B.notSynchronized
  have hP : va_P D vwCl [xi E 0 q n a] s.heap := hP
  have hl := lv_entry ([.ref q, .int (nI o), .int (nI v)]) (n := 4) (Nat.le_of_ble_eq_true rfl)
  rw [lg_entry_eq]
  generalize (lg_sl ([.ref q, .int (nI o), .int (nI v)]) ++ List.replicate (4 - (lg_sl ([.ref q, .int (nI o), .int (nI v)])).length) Slot.unset).toArray = ls at hl ⊢
  have hl : lv_has ls 4 [(0, .ref q), (1, .int (nI o)), (2, .int (nI v))] := hl
  refine lv_aload_n hx hb dX2_near_0 rfl (lv_at hl 0 rfl) ?_
  refine lv_iload_n hx hb dX2_near_1 rfl (lv_at hl 1 rfl) ?_
  refine lv_iload_n hx hb dX2_near_2 rfl (lv_at hl 2 rfl) ?_
  refine xi_iadd hx hb dX2_near_3 ?_
  refine xa_iald hx hb hK hP 0 rfl (by omega) (by omega) dX2_near_4 ?_
  refine xv_i (y := nI (f v)) (hf v hv) ?_
  refine lv_istore_n (lv' := [(3, .int (nI (f v))), (0, .ref q), (1, .int (nI o)), (2, .int (nI v))]) hx hb dX2_near_5 rfl hl (by decide) rfl (fun ls hl => ?_)
  have b0 := hfb v hv
  have jp1 : ∀ (b : Nat), (b = nr1 f v) → ∀ (ls : Array Slot), lv_has ls 4 [(0, .ref q), (1, .int (nI o)), (2, .int (nI v)), (3, .int (nI b))] → W p l e (headSpec (ws_ yX2_near cX2_near 4 (some .int)) (rmD 1 0 0)).room s m ([.ref q, .int (nI o), .int (nI v)] : List Value).toArray below meth c s.heap [] 0 0 (MQ below (vp_Si (fun r => r = nI (nr f v))) ([.ref q, .int (nI o), .int (nI v)] : List Value).toArray s 0 0 (fun _ => False)) (F0 m 29 ls []) := by
    intro b hb1 ls hl
    refine lv_iload_n hx hb dX2_near_29 rfl (lv_at hl 2 rfl) ?_
    have b1 : b ≤ f v := by rw [hb1]; unfold nr1; split <;> omega
    refine lv_bipush (v := nI 8) hx hb dX2_near_30 (by decide) ?_
    refine xi_icmp_ge (tgt := 54) hx hb (by omega) (by omega) dX2_near_32 (by decide) (fun c_32 => ?_) (fun c_32 => ?_)
    · refine lv_iload_n hx hb dX2_near_54 rfl (lv_at hl 3 rfl) ?_
      exact W.iret (v := nI b) hx hb hr (fun t9 ht9 hW9 => ⟨_, rfl, by unfold nr; rw [if_neg (by omega), hb1], ht9⟩) t_nil dX2_near_55
    · refine lv_aload_n hx hb dX2_near_35 rfl (lv_at hl 0 rfl) ?_
      refine lv_iload_n hx hb dX2_near_36 rfl (lv_at hl 1 rfl) ?_
      refine lv_iload_n hx hb dX2_near_37 rfl (lv_at hl 2 rfl) ?_
      refine xi_iadd hx hb dX2_near_38 ?_
      refine lv_iconst (v := nI 1) hx hb dX2_near_39 (by decide) ?_
      refine xi_iadd hx hb dX2_near_40 ?_
      refine xa_iald hx hb hK hP 0 rfl (by omega) (by omega) dX2_near_41 ?_
      refine xv_i (y := nI (f (v + 1))) (by rw [show o + v + 1 = o + (v + 1) by omega]; exact hf (v + 1) (by omega)) ?_
      refine lv_iload_n hx hb dX2_near_42 rfl (lv_at hl 3 rfl) ?_
      refine xi_icmp_ge (tgt := 54) hx hb (hfb _ (by omega)) (by omega) dX2_near_43 (by decide) (fun c_43 => ?_) (fun c_43 => ?_)
      · refine lv_iload_n hx hb dX2_near_54 rfl (lv_at hl 3 rfl) ?_
        exact W.iret (v := nI b) hx hb hr (fun t9 ht9 hW9 => ⟨_, rfl, by unfold nr; rw [if_neg (by omega), hb1], ht9⟩) t_nil dX2_near_55
      · refine lv_aload_n hx hb dX2_near_46 rfl (lv_at hl 0 rfl) ?_
        refine lv_iload_n hx hb dX2_near_47 rfl (lv_at hl 1 rfl) ?_
        refine lv_iload_n hx hb dX2_near_48 rfl (lv_at hl 2 rfl) ?_
        refine xi_iadd hx hb dX2_near_49 ?_
        refine lv_iconst (v := nI 1) hx hb dX2_near_50 (by decide) ?_
        refine xi_iadd hx hb dX2_near_51 ?_
        refine xa_iald hx hb hK hP 0 rfl (by omega) (by omega) dX2_near_52 ?_
        refine xv_i (y := nI (f (v + 1))) (by rw [show o + v + 1 = o + (v + 1) by omega]; exact hf (v + 1) (by omega)) ?_
        refine lv_istore_n (lv' := [(3, .int (nI (f (v + 1)))), (0, .ref q), (1, .int (nI o)), (2, .int (nI v))]) hx hb dX2_near_53 rfl hl (by decide) rfl (fun ls hl => ?_)
        refine lv_iload_n hx hb dX2_near_54 rfl (lv_at hl 0 rfl) ?_
        exact W.iret (v := nI (f (v + 1))) hx hb hr (fun t9 ht9 hW9 => ⟨_, rfl, by unfold nr; rw [if_pos (by omega)], ht9⟩) t_nil dX2_near_55
  refine lv_iload_n hx hb dX2_near_6 rfl (lv_at hl 3 rfl) ?_
  refine xi_if_le (tgt := 29) hx hb (by omega) dX2_near_7 (by decide) (fun c_7 => ?_) (fun c_7 => ?_)
  · exact jp1 (f v) (by unfold nr1; rw [if_neg (by omega)]) _ (lv_sub hl [1, 2, 3, 0] rfl)
  · refine lv_aload_n hx hb dX2_near_10 rfl (lv_at hl 1 rfl) ?_
    refine lv_iload_n hx hb dX2_near_11 rfl (lv_at hl 2 rfl) ?_
    refine lv_iload_n hx hb dX2_near_12 rfl (lv_at hl 3 rfl) ?_
    refine xi_iadd hx hb dX2_near_13 ?_
    refine lv_iconst (v := nI 1) hx hb dX2_near_14 (by decide) ?_
    refine xi_isub hx hb (by omega) dX2_near_15 ?_
    refine xa_iald hx hb hK hP 0 rfl (by omega) (by omega) dX2_near_16 ?_
    refine xv_i (y := nI (f (v - 1))) (by rw [show o + v - 1 = o + (v - 1) by omega]; exact hf (v - 1) (by omega)) ?_
    refine lv_iload_n hx hb dX2_near_17 rfl (lv_at hl 0 rfl) ?_
    refine xi_icmp_ge (tgt := 29) hx hb (hfb _ (by omega)) (hfb _ hv) dX2_near_18 (by decide) (fun c_18 => ?_) (fun c_18 => ?_)
    · exact jp1 (f v) (by unfold nr1; rw [if_neg (by omega)]) _ (lv_sub hl [1, 2, 3, 0] rfl)
    · refine lv_aload_n hx hb dX2_near_21 rfl (lv_at hl 1 rfl) ?_
      refine lv_iload_n hx hb dX2_near_22 rfl (lv_at hl 2 rfl) ?_
      refine lv_iload_n hx hb dX2_near_23 rfl (lv_at hl 3 rfl) ?_
      refine xi_iadd hx hb dX2_near_24 ?_
      refine lv_iconst (v := nI 1) hx hb dX2_near_25 (by decide) ?_
      refine xi_isub hx hb (by omega) dX2_near_26 ?_
      refine xa_iald hx hb hK hP 0 rfl (by omega) (by omega) dX2_near_27 ?_
      refine xv_i (y := nI (f (v - 1))) (by rw [show o + v - 1 = o + (v - 1) by omega]; exact hf (v - 1) (by omega)) ?_
      refine lv_istore_n (lv' := [(3, .int (nI (f (v - 1)))), (0, .ref q), (1, .int (nI o)), (2, .int (nI v))]) hx hb dX2_near_28 rfl hl (by decide) rfl (fun ls hl => ?_)
      exact jp1 (f (v - 1)) (by unfold nr1; rw [if_pos (by omega)]) _ (lv_sub hl [1, 2, 3, 0] rfl)
set_option maxHeartbeats 4000000 in
set_option maxRecDepth 100000 in
/-- the place of a cost in the table -/
theorem met_cell (l : Launch) (D : va_G) (E : Nat → ClassId) (x g v : Nat) : Met l yX2_cell (ws_ yX2_cell cX2_cell 3 (some .int)) (rmD 1 0 0) (va_Pc [.int (nI x), .int (nI g), .int (nI v)] (xB D E [])) (vp_Si (fun r => r = nI ((x * 12 + g) * 9 + v))) 0 0 (fun _ => False) := by
  refine Met.ofW (cc := cX2_cell) (maxL := 3) (ret := (some .int)) (by decide) rfl ?_
  intro p e s m args below meth c s₁ B hml hv0
  obtain ⟨rfl, hP, hK, hN⟩ := hv0
  have hx := B.exec
  have hb := B.bytes
  have hr := B.returns
  have hts := atoms_spec (ws := (ws_ yX2_cell cX2_cell 3 (some .int))) B.pre
  have hts : ∀ w ∈ lw_all, w.before _ s = true := fun w h => hts w (List.mem_cons_of_mem _ h)
  have hown : s.vm.findClass RX2 = some m.cls := findClass_of_methodNamed B.named
  have hlocks := B.notSynchronized
  have hP : va_P D vwCl [] s.heap := hP
  have hl := lv_entry ([.int (nI x), .int (nI g), .int (nI v)]) (n := 3) (Nat.le_of_ble_eq_true rfl)
  rw [lg_entry_eq]
  generalize (lg_sl ([.int (nI x), .int (nI g), .int (nI v)]) ++ List.replicate (3 - (lg_sl ([.int (nI x), .int (nI g), .int (nI v)])).length) Slot.unset).toArray = ls at hl ⊢
  have hl : lv_has ls 3 [(0, .int (nI x)), (1, .int (nI g)), (2, .int (nI v))] := hl
  refine lv_bipush (v := nI 12) hx hb dX2_cell_0 (by decide) ?_
  refine lv_iload_n hx hb dX2_cell_2 rfl (lv_at hl 0 rfl) ?_
  refine xi_imul hx hb dX2_cell_3 ?_
  refine lv_iload_n hx hb dX2_cell_4 rfl (lv_at hl 1 rfl) ?_
  refine xi_iadd hx hb dX2_cell_5 ?_
  refine lv_bipush (v := nI 9) hx hb dX2_cell_6 (by decide) ?_
  refine xi_imul hx hb dX2_cell_8 ?_
  refine lv_iload_n hx hb dX2_cell_9 rfl (lv_at hl 2 rfl) ?_
  refine xi_iadd hx hb dX2_cell_10 ?_
  exact W.iret (v := nI ((((12 * x) + g) * 9) + v)) hx hb hr (fun t9 ht9 hW9 => ⟨_, rfl, by congr 1; omega, ht9⟩) t_nil dX2_cell_11
set_option maxHeartbeats 4000000 in
set_option maxRecDepth 100000 in
/-- the cheapest sign at a place and a speed -/
theorem met_cheapest (l : Launch) (D : va_G) (E : Nat → ClassId) (h0 qc : Nat) (fs : List Value) (h4 : fs[4]? = some (.ref qc)) (a : Nat → Int32) (x v : Nat) (f : Nat → Nat) (hx20 : x < 20) (hv : v < 9) (hf : ∀ g, g < 12 → a ((x * 12 + g) * 9 + v) = nI (f g)) (hfb : ∀ g, g < 12 → f g < 2147483648) : Met l yX2_cheapest (ws_ yX2_cheapest cX2_cheapest 5 (some .int)) (rmD 2 0 0) (va_Pc [.ref h0, .int (nI x), .int (nI v)] (xB D E [xo h0 1 fs, xi E 0 qc 2160 a])) (vp_Si (fun r => r = nI (mnP 100000000 al f 12))) 0 0 (fun _ => False) := by
  refine Met.ofW (cc := cX2_cheapest) (maxL := 5) (ret := (some .int)) (by decide) rfl ?_
  intro p e s m args below meth c s₁ B hml hv0
  obtain ⟨rfl, hP, hK, hN⟩ := hv0
  have hx := B.exec
  have hb := B.bytes
  have hr := B.returns
  have hts := atoms_spec (ws := (ws_ yX2_cheapest cX2_cheapest 5 (some .int))) B.pre
  have hts : ∀ w ∈ lw_all, w.before _ s = true := fun w h => hts w (List.mem_cons_of_mem _ h)
  have hown : s.vm.findClass RX2 = some m.cls := findClass_of_methodNamed B.named
  have hlocks := B.notSynchronized
  have hP : va_P D vwCl [xo h0 1 fs, xi E 0 qc 2160 a] s.heap := hP
  have hl := lv_entry ([.ref h0, .int (nI x), .int (nI v)]) (n := 5) (Nat.le_of_ble_eq_true rfl)
  rw [lg_entry_eq]
  generalize (lg_sl ([.ref h0, .int (nI x), .int (nI v)]) ++ List.replicate (5 - (lg_sl ([.ref h0, .int (nI x), .int (nI v)])).length) Slot.unset).toArray = ls at hl ⊢
  have hl : lv_has ls 5 [(0, .ref h0), (1, .int (nI x)), (2, .int (nI v))] := hl
  refine lv_ldc hx hb hown (hts _ q1068) dX2_cheapest_0 ?_
  refine xv_i (y := nI 100000000) rfl ?_
  refine lv_istore_n (lv' := [(3, .int (nI 100000000)), (0, .ref h0), (1, .int (nI x)), (2, .int (nI v))]) hx hb dX2_cheapest_2 rfl hl (by decide) rfl (fun ls hl => ?_)
  refine lv_iconst (v := nI 0) hx hb dX2_cheapest_3 (by decide) ?_
  refine lv_istore (lv' := [(4, .int (nI 0)), (3, .int (nI 100000000)), (0, .ref h0), (1, .int (nI x)), (2, .int (nI v))]) hx hb dX2_cheapest_4 hl (by decide) rfl (fun ls hl => ?_)
  have lp1 : ∀ (lc1 : Nat) (g : Nat), 12 - g < lc1 → (g ≤ 12) → ∀ (ls : Array Slot), lv_has ls 5 [(0, .ref h0), (1, .int (nI x)), (2, .int (nI v)), (3, .int (nI (mnP 100000000 al f g))), (4, .int (nI g))] → W p l e (headSpec (ws_ yX2_cheapest cX2_cheapest 5 (some .int)) (rmD 2 0 0)).room s m ([.ref h0, .int (nI x), .int (nI v)] : List Value).toArray below meth c s.heap [] 0 0 (MQ below (vp_Si (fun r => r = nI (mnP 100000000 al f 12))) ([.ref h0, .int (nI x), .int (nI v)] : List Value).toArray s 0 0 (fun _ => False)) (F0 m 6 ls []) := by
    intro lc1
    induction lc1 with
    | zero => intro g hm; exact absurd hm (Nat.not_lt_zero _)
    | succ lc1 ih1 =>
      intro g hm1 hg ls hl
      have hle : mnP 100000000 al f g ≤ 100000000 := mnP_leF
      refine lv_iload hx hb dX2_cheapest_6 (lv_at hl 4 rfl) ?_
      refine lv_bipush (v := nI 12) hx hb dX2_cheapest_8 (by decide) ?_
      refine xi_icmp_ge (tgt := 52) hx hb (by omega) (by omega) dX2_cheapest_10 (by decide) (fun c_10 => ?_) (fun c_10 => ?_)
      · refine lv_iload_n hx hb dX2_cheapest_52 rfl (lv_at hl 3 rfl) ?_
        exact W.iret (v := nI (mnP 100000000 al f g)) hx hb hr (fun t9 ht9 hW9 => ⟨_, rfl, by rw [show g = 12 by omega], ht9⟩) t_nil dX2_cheapest_53
      · have jp2 : ∀ (ls : Array Slot), lv_has ls 5 [(0, .ref h0), (1, .int (nI x)), (2, .int (nI v)), (4, .int (nI g))] → W p l e (headSpec (ws_ yX2_cheapest cX2_cheapest 5 (some .int)) (rmD 2 0 0)).room s m ([.ref h0, .int (nI x), .int (nI v)] : List Value).toArray below meth c s.heap [] 0 0 (MQ below (vp_Si (fun r => r = nI (mnP 100000000 al f 12))) ([.ref h0, .int (nI x), .int (nI v)] : List Value).toArray s 0 0 (fun _ => False)) (F0 m 45 ls [.int (nI (mnP 100000000 al f (g + 1)))]) := by
          intro   ls hl
          refine lv_istore_n (lv' := [(3, .int (nI (mnP 100000000 al f (g + 1)))), (0, .ref h0), (1, .int (nI x)), (2, .int (nI v)), (4, .int (nI g))]) hx hb dX2_cheapest_45 rfl hl (by decide) rfl (fun ls hl => ?_)
          refine lv_iinc (v := nI (g + 1)) (lv' := [(4, .int (nI (g + 1))), (3, .int (nI (mnP 100000000 al f (g + 1)))), (0, .ref h0), (1, .int (nI x)), (2, .int (nI v))]) hx hb dX2_cheapest_46 hl (k := 4) rfl (nI_1 _) (by decide) rfl (fun ls hl => ?_)
          refine lv_goto (tgt := 6) hx hb dX2_cheapest_49 (by decide) ?_
          exact ih1 (g + 1) (by omega) (by omega) _ (lv_sub hl [2, 3, 4, 1, 0] rfl)
        refine lv_aload_n hx hb dX2_cheapest_13 rfl (lv_at hl 0 rfl) ?_
        refine va_get (D := D) (ci := 1) (v := .ref qc) (C := RX2) (T := TX2) (N := 31) hx hb hts in_X2 hown hK hP 0 rfl rfl 4 (by decide) (hts _ q937) (fun _ h9 => h9) h4 dX2_cheapest_14 ?_
        refine lv_iload_n hx hb dX2_cheapest_17 rfl (lv_at hl 1 rfl) ?_
        refine lv_iload hx hb dX2_cheapest_18 (lv_at hl 4 rfl) ?_
        refine lv_iload_n hx hb dX2_cheapest_20 rfl (lv_at hl 2 rfl) ?_
        refine xs_Si (n := 3) (As := [.int (nI x), .int (nI g), .int (nI v)]) (rest := [.ref qc]) (ws := [xo h0 1 fs, xi E 0 qc 2160 a]) (tl := []) (wc := []) ⟨hx, hb, hml, hown, hts⟩ (met_cell l D E x g v) (lw_S q1053 q1054 q50 q1055) (by decide +kernel) ⟨(Nat.le_of_ble_eq_true rfl), (Nat.le_of_ble_eq_true rfl)⟩ rfl rfl hK hN hP [] rfl rfl hl.1 rfl (Nat.le_of_ble_eq_true rfl) dX2_cheapest_21 ⟨(Nat.le_of_ble_eq_true rfl), (Nat.le_of_ble_eq_true rfl)⟩ (fun r_1 h_1 => ?_)
        subst h_1
        refine xa_iald hx hb hK hP 1 rfl (by omega) (by omega) dX2_cheapest_24 ?_
        refine xv_i (y := nI (f g)) (hf g (by omega)) ?_
        refine lv_iload_n hx hb dX2_cheapest_25 rfl (lv_at hl 3 rfl) ?_
        refine xi_icmp_ge (tgt := 44) hx hb (hfb g (by omega)) (by omega) dX2_cheapest_26 (by decide) (fun c_26 => ?_) (fun c_26 => ?_)
        · refine lv_iload_n hx hb dX2_cheapest_44 rfl (lv_at hl 3 rfl) ?_
          refine xv_i (y := nI (mnP 100000000 al f (g + 1))) (by show nI (mnP 100000000 al f g) = nI (mnP 100000000 al f (g + 1)); rw [show mnP 100000000 al f (g + 1) = mnP 100000000 al f g from if_neg (by omega)]) ?_
          exact jp2   _ (lv_sub hl [0, 1, 2, 4] rfl)
        · refine lv_aload_n hx hb dX2_cheapest_29 rfl (lv_at hl 0 rfl) ?_
          refine va_get (D := D) (ci := 1) (v := .ref qc) (C := RX2) (T := TX2) (N := 31) hx hb hts in_X2 hown hK hP 0 rfl rfl 4 (by decide) (hts _ q937) (fun _ h9 => h9) h4 dX2_cheapest_30 ?_
          refine lv_iload_n hx hb dX2_cheapest_33 rfl (lv_at hl 1 rfl) ?_
          refine lv_iload hx hb dX2_cheapest_34 (lv_at hl 4 rfl) ?_
          refine lv_iload_n hx hb dX2_cheapest_36 rfl (lv_at hl 2 rfl) ?_
          refine xs_Si (n := 3) (As := [.int (nI x), .int (nI g), .int (nI v)]) (rest := [.ref qc]) (ws := [xo h0 1 fs, xi E 0 qc 2160 a]) (tl := []) (wc := []) ⟨hx, hb, hml, hown, hts⟩ (met_cell l D E x g v) (lw_S q1053 q1054 q50 q1055) (by decide +kernel) ⟨(Nat.le_of_ble_eq_true rfl), (Nat.le_of_ble_eq_true rfl)⟩ rfl rfl hK hN hP [] rfl rfl hl.1 rfl (Nat.le_of_ble_eq_true rfl) dX2_cheapest_37 ⟨(Nat.le_of_ble_eq_true rfl), (Nat.le_of_ble_eq_true rfl)⟩ (fun r_2 h_2 => ?_)
          subst h_2
          refine xa_iald hx hb hK hP 1 rfl (by omega) (by omega) dX2_cheapest_40 ?_
          refine xv_i (y := nI (f g)) (hf g (by omega)) ?_
          refine lv_goto (tgt := 45) hx hb dX2_cheapest_41 (by decide) ?_
          refine xv_i (y := nI (mnP 100000000 al f (g + 1))) (by show nI (f g) = nI (mnP 100000000 al f (g + 1)); rw [show mnP 100000000 al f (g + 1) = f g from if_pos ⟨rfl, by omega⟩]) ?_
          exact jp2   _ (lv_sub hl [0, 1, 2, 4] rfl)
  exact lp1 _ 0 (Nat.lt_succ_self _) (by omega) _ (lv_sub hl [2, 3, 4, 1, 0] rfl)
